set_option maxRecDepth 100000
/-! exceptions: methods that may throw, methods with handlers -/
abbrev Qd : Type := Nat × Nat × Nat × Nat
def qd (x : ExceptionTableEntry) : Qd := (x.startPc, x.endPc, x.handlerPc, x.catchType)
def kX (M : MI) : Cond := match M.2.2.2.2 with
  | [] => .code M.1 M.2.1 M.2.2.1 M.2.2.2.1
  | x :: hh => .codeWith M.1 M.2.1 M.2.2.1 M.2.2.2.1 (x :: hh)
theorem kX_spec {M : MI} {args : Array Value} {s : State} {m : MethodId} (hn : s.methodNamed? M.1 = some m) (h : (kX M).before args s = true) :
    ∃ meth c, s.vm.method? m = some meth ∧ meth.code = some c ∧ c.code = M.2.1 ∧ c.maxLocals = M.2.2.1 ∧ meth.sig.returnType = M.2.2.2.1 ∧ meth.locks = false ∧ c.exceptionTable.toList.map (fun x => (x.startPc, x.endPc, x.handlerPc, x.catchType)) = M.2.2.2.2 ∧ parseMethodDescriptor M.1.desc = some meth.sig := by
  unfold kX at h
  split at h
  · rename_i e
    obtain ⟨meth, c, h1, h2, h3, h4, h5, h6, h7, h8⟩ := Cond.code_spec hn h
    refine ⟨meth, c, h1, h2, h3, h4, h5, h6, ?_, h8⟩
    rw [e, List.map_eq_nil_iff, Array.toList_eq_nil_iff]
    exact Array.isEmpty_iff.mp h7
  · rename_i x hh e
    obtain ⟨m9, meth, c, hn9, h1, h2, h3, h4, h7, h5, h6, h8⟩ := Cond.codeWith_spec h
    cases hn.symm.trans hn9
    exact ⟨meth, c, h1, h2, h3, h4, h5, h6, by rw [h7, e], h8⟩
theorem kX_good {M : MI} (h : kX M ∈ lw_all) : GoodIn lw_all (kX M :: lw_all) := lw_good (fun w hw => by
  rcases List.mem_cons.mp hw with e | e
  · rw [e]; exact h
  · exact e)
/-- what a contract's end says -/
def QX (G : GX) (sg : Nat → Nat) (Q : OC → AHp → Prop) (mc ms : Nat) : Array Value → State → Outcome → State → Prop := fun _ st o t =>
  (∃ (x : OC) (h' : AHp), ocR sg st t x o ∧ Q x h' ∧ Hd G sg h' t.heap ∧ va_F (gA G) st t) ∧ ∃ L, (st.WarmedH t.vm ∧ st.sameButNew ({ t with vm := st.vm } : State) L mc ms) ∧ ∀ q ∈ L, gA G q.base
/-- THE CONTRACT of a method that may throw, with or without handlers -/
def AMetX (M : MI) (d mc ms : Nat) (as : List Value) (h : AHp) (Q : OC → AHp → Prop) : Prop :=
  ∀ (l : Launch) (G : GX) (sg : Nat → Nat), l.flags = flags0 → MetFree l M.1 (headSpec (kX M :: lw_all) (rmD d mc ms)) (Pm G sg as h) (fun _ _ _ _ _ => True) (QX G sg Q mc ms)
theorem AMetX.ofRch {M : MI} {d mc ms : Nat} {as : List Value} {h : AHp} {Q : OC → AHp → Prop} (hy : plainName M.1.cls = true) (hn : (lvE as).length ≤ M.2.2.1) (k : Rch (M, d, mc, ms, Q) 0 0 0 (lvE as ++ List.replicate (M.2.2.1 - (lvE as).length) none) [] h) : AMetX M d mc ms as h Q := by
  intro l G sg hfl
  have hkk : ∀ (args : Array Value) (s : State), (headSpec (kX M :: lw_all) (rmD d mc ms)).pre.before args s = true → (kX M).before args s = true := fun args s h => atoms_spec (ws := kX M :: lw_all) h _ List.mem_cons_self
  refine MetFree.of_bodyS (code := M.2.1) (maxLocals := M.2.2.1) (ret := M.2.2.2.1) hy ?_ ?_
  · intro args s m h hn
    obtain ⟨meth, c, h1, h2, h3, h4, h5, h6, -, -⟩ := kX_spec hn (hkk _ _ h)
    exact ⟨meth, c, h1, h2, h3, h4, h5, h6⟩
  · intro p e s m args below meth c s₁ B hml hv _
    obtain ⟨rfl, hgp, hsz, hH⟩ := hv
    have hts := atoms_spec (ws := kX M :: lw_all) B.pre
    have hts : ∀ w ∈ lw_all, w.before _ s = true := fun w h => hts w (List.mem_cons_of_mem _ h)
    have htb : c.exceptionTable.toList.map (fun x => (x.startPc, x.endPc, x.handlerPc, x.catchType)) = M.2.2.2.2 := by
      obtain ⟨meth', c', h1, h2, -, -, -, -, h7, -⟩ := kX_spec B.named (hkk _ _ B.pre)
      cases B.method.symm.trans h1
      cases (Stand.of_body B).code.symm.trans h2
      exact h7
    have hl := lv_entry (as.map (rv sg)) (n := M.2.2.1) (by rw [lg_sl_len]; exact hn)
    rw [lg_entry_eq]
    generalize (lg_sl (as.map (rv sg)) ++ List.replicate (M.2.2.1 - (lg_sl (as.map (rv sg))).length) Slot.unset).toArray = ls at hl ⊢
    have hl2 : LvH sg ls M.2.2.1 (lvE as ++ List.replicate (M.2.2.1 - (lvE as).length) none) := by
      refine ⟨hl.1, hl.2.1, fun i v hi => ?_⟩
      by_cases hlt : i < (lvE as).length
      · rw [List.getElem?_append_left hlt] at hi
        have := lvE_get sg as 0 i v hi
        rw [Nat.zero_add] at this
        exact hl.2.2 _ this
      · rw [List.getElem?_append_right (by omega), List.getElem?_replicate] at hi
        split at hi <;> cases hi
    have hh0 : s₁.heap = s.heap := by rw [B.state]; rfl
    have K := k l G sg (rmD d mc ms) p e s m (as.map (rv sg)).toArray below meth c s.heap [] ls ⟨Nat.le_refl _, Nat.le_refl _, Nat.le_refl _, Nat.le_refl _⟩ ⟨B.exec, B.bytes, B.returns, hml, findClass_of_methodNamed B.named, hts, B.notSynchronized, (name_of_methodNamed B.named B.method).1, hgp, hsz, htb, hfl⟩ hl2 hH va_S.rf s₁ hh0 (Stand.of_body B)
    obtain ⟨t, a1, o, b1, b2, b3, b4⟩ := K
    exact ⟨t, o, a1, b1, b2, b3, b4⟩
/-- thrown, at pc: the frame of the method with the note -/
def RT (J : Jb) (ce sl pc : Nat) (lv : List (Option Value)) (a : Nat) (Cn : String) (h : AHp) : Prop :=
  ∀ (l : Launch) (G : GX) (sg : Nat → Nat) (R : Room) (p : Program) (e : Env) (s : State) (m : MethodId) (args : Array Value) (below : List Frame) (meth : Method) (c : Code) (H : Heap) (locs : List Loc) (ls : Array Slot) (stk : List Value),
    RmOk R J.2.1 J.2.2.1 J.2.2.2.1 → Cx J.1 G l p s m args meth c → LvH sg ls J.1.2.2.1 lv → Hd G sg h H → va_S (gA G) s.heap H locs → (∃ cell : Cell, H[sg a]? = some cell ∧ cell.vm.isStatics = false ∧ s.vm.findClass Cn = some cell.cls) →
    ∀ T : State, T.heap = H → Stand p l e R s m args below meth c T locs ce sl → ∃ t, Steps p.tables e below ((T.setTop (F0 m pc ls stk)).pushFrame (.throwing (sg a))) t ∧ MQX below G sg J.2.2.2.2 s J.2.2.1 J.2.2.2.1 t
/-- what goes on behind a call that may throw -/
abbrev KX (J : Jb) (ce sl pc : Nat) (lv : List (Option Value)) (st : List Value) : OC → AHp → Prop := fun x h' => match x with
  | .inl r => Rch J ce sl (pc + 3) lv (r.toList ++ st) h'
  | .inr (a, Cn) => RT J ce sl pc lv a Cn h'
theorem heap_setTop (T : State) (g : JFrame) : (T.setTop g).heap = T.heap := by simp [State.setTop, State.modifyTopJava]
theorem vm_setTop (T : State) (g : JFrame) : (T.setTop g).vm = T.vm := by simp [State.setTop, State.modifyTopJava]
theorem RX_back {J : Jb} {ce sl pc mc ms d : Nat} {lv : List (Option Value)} {st : List Value} {h : AHp} {M : MI} {as : List Value} {p : Program} {l : Launch} {e : Env} {R : Room} {s : State} {m mk : MethodId} {args : Array Value} {below : List Frame} {meth : Method} {c : Code} {H : Heap} {locs : List Loc} {ls : Array Slot} {G : GX} {sg : Nat → Nat} {U : State} {ig : Instr}
    (hR : RmOk R J.2.1 J.2.2.1 J.2.2.2.1) (C : Cx J.1 G l p s m args meth c) (hl : LvH sg ls J.1.2.2.1 lv) (hH : Hd G sg h H) (hS : va_S (gA G) s.heap H locs)
    (hdp : d + 1 ≤ J.2.1) (hm21 : M.2.2.1 ≤ 21) (hkx : kX M ∈ lw_all) (hini : Cond.initialized M.1.cls ∈ lw_all) (hcat : (st.map fun v => v.category).sum ≤ 8) (hc : ce + mc ≤ J.2.2.1) (hs : sl + ms ≤ J.2.2.2.1) (hd : decode J.1.2.1 pc = .ok (ig, 3))
    (hM : AMetX M d mc ms as h (KX J (ce + mc) (sl + ms) pc lv st)) (hU : U.heap = H) (X : Stand p l e R s m args below meth c U locs ce sl) (hn : U.methodNamed? M.1 = some mk) :
    ∃ t, Steps p.tables e below (doInvoke e (U.setTop (F0 m pc ls (st.map (rv sg)))) [] mk (as.map (rv sg)).toArray).1 t ∧ MQX below G sg J.2.2.2.2 s J.2.2.1 J.2.2.2.1 t := by
  have hW0 : s.WarmedH U.vm := X.warmed
  have hws := pay_in (s := s) (args := args) C.2.2.2.2.2.1 (kX_good hkx)
  obtain ⟨methY, cY, hmY, hcY, -, hlY, -⟩ := kX_spec hn (hws _ List.mem_cons_self (as.map (rv sg)).toArray U hW0)
  obtain ⟨kY, hkY, -⟩ := className_of_methodNamed hn
  have hinitY : kY.init = .initialized := Cond.initialized_spec (args := (as.map (rv sg)).toArray) (first := U) (o := none) (idx := []) (findClass_of_methodNamed hn) hkY (hws _ (List.mem_cons_of_mem _ hini) _ U hW0)
  have hdg : decode c.code (F0 m pc ls (st.map (rv sg))).pc = .ok (ig, 3) := by rw [C.2.1]; exact hd
  have hsize : (F0 m pc ls (st.map (rv sg))).locals.size = c.maxLocals := hl.1.trans C.2.2.2.1.symm
  obtain ⟨f1, f2⟩ := rmD_fits (mc := mc) (ms := ms) hR hdp hm21
  have hA : At U (F0 m pc ls (st.map (rv sg))).method c below := X.here
  have happ : (headSpec (kX M :: lw_all) (rmD d mc ms)).appliesLoose M.1 e.platform (U.calling (F0 m pc ls (st.map (rv sg))) mk (as.map (rv sg)).toArray) = true :=
    Spec.appliesLoose_calling hA hdg hn hkY hinitY
      (X.room_calling (g := F0 m pc ls (st.map (rv sg))) (R' := rmD d mc ms) hsize hmY hcY f1 (by
        have e1 : ((F0 m pc ls (st.map (rv sg))).stack.map fun v => v.category).sum ≤ 8 := by
          show ((st.map (rv sg)).map fun v => v.category).sum ≤ 8
          rw [cat_map]; exact hcat
        have e2 : (F0 m pc ls (st.map (rv sg))).monitorRoom = 0 := rfl
        rw [hlY, e2]
        omega) (Nat.le_trans hc hR.2.2.1) (Nat.le_trans hs hR.2.2.2)) (atoms_intro fun w hw => hws w hw _ _ hW0)
  have hP : Pm G sg as h (as.map (rv sg)).toArray (U.calling (F0 m pc ls (st.map (rv sg))) mk (as.map (rv sg)).toArray) :=
    Pm.blind _ _ _ _ ⟨rfl, C.2.2.2.2.2.2.2.2.1.next hW0 C.2.2.2.2.2.2.2.2.2.1 (by rw [hU]; exact hS), by rw [hU]; exact hH.2.2.1, by rw [hU]; exact hH⟩
  obtain ⟨mid, hmid⟩ := hA.above
  have hfr : (U.setTop (F0 m pc ls (st.map (rv sg)))).frames = (.java (F0 m pc ls (st.map (rv sg))) :: mid) ++ below := by rw [State.frames_setTop' _ hA.top, hmid]; rfl
  obtain ⟨o, s₂, hsteps, -, hend, ⟨x, h', q1, q2, q3, q4⟩, L, q5, q6⟩ := Steps.callFree (hM l G sg C.2.2.2.2.2.2.2.2.2.2.2) p X.admits X.cas X.clock (acts := []) hfr happ hP trivial
  rw [State.frames_setTop' _ hA.top, X.tail] at hend
  have hS' : ∀ T' : State, T'.heap = s₂.heap → va_S (gA G) s.heap T'.heap (locs ++ L) := by
    intro T' hT'
    have hz : H.size ≤ s₂.heap.size := by rw [← hU]; exact q4.1
    refine ⟨Nat.le_trans hS.1 (by rw [hT']; exact hz), fun q h1 h2 => ?_, fun q hq => ?_⟩
    · have hk2 : s₂.heap[q]? = H[q]? := by rw [← hU]; exact q4.2 q (by show q < U.heap.size; rw [hU]; exact Nat.lt_of_lt_of_le h1 hS.1) h2
      rw [hT', hk2]; exact hS.2.1 q h1 h2
    · rcases List.mem_append.mp hq with h | h
      · exact hS.2.2 q h
      · exact q6 q h
  match x, q1, q2 with
  | .inl r, q1, q2 =>
    cases q1
    obtain ⟨T', X', -, -, e1⟩ := X.outOf (g := F0 m pc ls (st.map (rv sg))) rfl hdg (hend) q5.1 q5.2
    have eT : T'.heap = s₂.heap := by rw [e1, heap_setTop]
    obtain ⟨t2, a1, b1⟩ := q2 l G sg R p e s m args below meth c T'.heap (locs ++ L) ls hR C hl (by rw [eT]; exact q3) (hS' T' eT) T' rfl X'
    refine ⟨t2, hsteps.trans ?_, b1⟩
    have e3 : (r.map (rv sg)).toList ++ st.map (rv sg) = (r.toList ++ st).map (rv sg) := by cases r <;> simp
    rw [← e3] at a1
    rw [e1]
    exact a1
  | .inr (a, Cn), q1, q2 =>
    obtain ⟨q1, cell, w1, w2, w3⟩ := q1
    cases q1
    obtain ⟨T', X', -, -, e1⟩ := X.outOfThrown (g := F0 m pc ls (st.map (rv sg))) rfl hend q5.1 q5.2
    have eT : T'.heap = s₂.heap := by rw [e1, Stand.throwing_heap]
    obtain ⟨t2, a1, b1⟩ := q2 l G sg R p e s m args below meth c T'.heap (locs ++ L) ls (st.map (rv sg)) hR C hl (by rw [eT]; exact q3) (hS' T' eT) ⟨cell, by rw [eT]; exact w1, w2, by rw [← hW0.alike.findClass]; exact w3⟩ T' rfl X'
    refine ⟨t2, hsteps.trans ?_, b1⟩
    rw [e1]
    exact a1
/-- what holds of a method that may throw, whoever calls it -/
def MxC (M : MI) (n : Nat) : Prop := kX M ∈ lw_all ∧ Cond.initialized M.1.cls ∈ lw_all ∧ (M.1.cls ≠ "java/lang/invoke/MethodHandle" ∧ M.1.cls ≠ "java/lang/invoke/VarHandle" ∧ (parseMethodDescriptor M.1.desc).map (fun d => d.parameters.length) = some n) ∧ M.2.2.1 ≤ 21
def MxS (M : MI) (n : Nat) : Prop := MxC M n ∧ Cond.static M.1 ∈ lw_all
def MxV (M : MI) (n : Nat) : Prop := MxC M n ∧ Cond.instanceMethod M.1 ∈ lw_all ∧ Cond.selects M.1.cls M.1 M.1 ∈ lw_all
theorem MkS.x {M : MI} {n : Nat} (h : MkS M n) (hh : M.2.2.2.2 = []) : MxS M n := ⟨⟨by unfold kX; rw [hh]; exact h.1.1, h.1.2⟩, h.2⟩
theorem MkV.x {M : MI} {n : Nat} (h : MkV M n) (hh : M.2.2.2.2 = []) : MxV M n := ⟨⟨by unfold kX; rw [hh]; exact h.1.1, h.1.2⟩, h.2⟩
theorem r_xS {J : Jb} {ce sl pc : Nat} {lv : List (Option Value)} {st : List Value} {h : AHp} {M : MI} {d mc ms n index : Nat} {as : List Value} (ok : MxS M n) (hq : Cond.methodLink J.1.1.cls index M.1 ∈ lw_all) (hd : decode J.1.2.1 pc = .ok (.invokestatic index, 3)) (hdp : d + 1 ≤ J.2.1) (hn : as.length = n) (hcat : (st.map fun v => v.category).sum ≤ 8) (hc : ce + mc ≤ J.2.2.1) (hs : sl + ms ≤ J.2.2.2.1) (hM : AMetX M d mc ms as h (KX J (ce + mc) (sl + ms) pc lv st)) : Rch J ce sl pc lv (as.reverse ++ st) h := by
  intro l G sg R p e s m args below meth c H locs ls hR C hl hH hS T hT X
  have hts := C.2.2.2.2.2.1
  obtain ⟨mk, methM, hnamed, hmethM, hstM⟩ : ∃ mk methM, s.methodNamed? M.1 = some mk ∧ s.vm.method? mk = some methM ∧ parseMethodDescriptor M.1.desc = some methM.sig := by
    have hk0 := hts _ ok.1.1
    have hn0 : ∃ mk, s.methodNamed? M.1 = some mk := by
      unfold kX at hk0
      split at hk0
      · exact Cond.code_named hk0
      · obtain ⟨m9, -, -, hn9, -⟩ := Cond.codeWith_spec hk0
        exact ⟨m9, hn9⟩
    obtain ⟨mk, hn0⟩ := hn0
    obtain ⟨meth', c', h1, -, -, -, -, -, -, h8⟩ := kX_spec hn0 (hts _ ok.1.1)
    exact ⟨mk, meth', hn0, h1, h8⟩
  have hstatic : methM.isStatic = true := Cond.static_spec hnamed hmethM (hts _ ok.2)
  obtain ⟨kP, hkP, -⟩ := className_of_methodNamed hnamed
  have hinitP : kP.init = .initialized := Cond.initialized_spec (args := args) (first := s) (o := none) (idx := []) (findClass_of_methodNamed hnamed) hkP (hts _ ok.1.2.1)
  have hlen : (as.map (rv sg)).length = methM.sig.parameters.length := by
    have h2 := ok.1.2.2.1.2.2
    rw [hstM] at h2
    rw [List.length_map, hn]
    exact (Option.some.inj h2).symm
  obtain ⟨vm₁, X₁, hstep₁⟩ := X.invokestatic C.1 C.2.2.2.2.1 (hts _ hq) hnamed hmethM hstatic hkP hinitP ⟨ok.1.2.2.1.1, ok.1.2.2.1.2.1⟩ (g := F0 m pc ls ((as.reverse ++ st).map (rv sg))) rfl (argsL := as.map (rv sg)) (rest := st.map (rv sg)) hlen (by simp) (by rw [C.2.1]; exact hd)
  obtain ⟨t, a1, b1⟩ := RX_back hR C hl hH hS hdp ok.1.2.2.2 ok.1.1 ok.1.2.1 hcat hc hs hd hM (U := T.setVm vm₁) hT X₁ (X₁.named hnamed)
  exact ⟨t, hstep₁ _ fun acts => by rw [doInvoke_state]; exact a1, b1⟩
theorem r_xV {J : Jb} {ce sl pc : Nat} {lv : List (Option Value)} {st : List Value} {h : AHp} {M : MI} {d mc ms n index : Nat} {as : List Value} {ci a : Nat} {fs : List Value} {N : Nat} {Cn : String} {T : u_T} {ty : Nat → FieldType} (ok : MxV M n) (b : FB ci Cn T N ty) (hcn : M.1.cls = Cn) (hg : aGet h a = some (.inr (ci, fs))) (hq : Cond.methodLink J.1.1.cls index M.1 ∈ lw_all) (hd : decode J.1.2.1 pc = .ok (.invokevirtual index, 3)) (hdp : d + 1 ≤ J.2.1) (hn : as.length = n) (hcat : (st.map fun v => v.category).sum ≤ 8) (hc : ce + mc ≤ J.2.2.1) (hs : sl + ms ≤ J.2.2.2.1) (hM : AMetX M d mc ms (.ref a :: as) h (KX J (ce + mc) (sl + ms) pc lv st)) : Rch J ce sl pc lv (as.reverse ++ .ref a :: st) h := by
  intro l G sg R p e s m args below meth c H locs ls hR C hl hH hS T hT X
  subst hcn
  have hts := C.2.2.2.2.2.1
  obtain ⟨q0, e1, -⟩ := wso_at (G := G) (sg := sg) (show kn (.inr (ci, fs)) = true from b.2.2.2.2) hg
  obtain ⟨cellB, hcB, hoB, hclB⟩ := va_recv C.2.2.2.2.2.2.2.2.1.1 hH.1 b.1 e1
  obtain ⟨mk, methM, hnamed, hmethM, hstM, habM⟩ := Cond.instanceMethod_spec (hts _ ok.2.1)
  obtain ⟨meth', c', h1, -, -, -, -, -, -, h8⟩ := kX_spec hnamed (hts _ ok.1.1)
  cases hmethM.symm.trans h1
  obtain ⟨c2, r2, m2, q1, q2, q3, q4, kP, hkP, hkPi⟩ := Cond.selects_spec (hts _ ok.2.2)
  have hy : M.1.cls ≠ "java/lang/invoke/MethodHandle" ∧ M.1.cls ≠ "java/lang/invoke/VarHandle" := ⟨ok.1.2.2.1.1, ok.1.2.2.1.2.1⟩
  cases hclB.symm.trans q1
  cases (State.methodFound?_of_named hnamed hy).symm.trans q2
  cases hnamed.symm.trans q3
  have hselP : selectMethod e.platform s.vm cellB.cls mk = .method mk := by rw [Launch.admits_selectMethod X.admits]; exact q4
  have hlen : (as.map (rv sg)).length = methM.sig.parameters.length := by
    have h2 := ok.1.2.2.1.2.2
    rw [h8] at h2
    rw [List.length_map, hn]
    exact (Option.some.inj h2).symm
  obtain ⟨vm₁, X₁, hstep₁⟩ := X.invokevirtual C.1 C.2.2.2.2.1 (hts _ hq) hnamed hmethM hstM hkP hkPi hy (a := sg a) (cell := cellB) (by rw [hT]; exact hcB)
    (fun z h => by rw [h] at hoB; cases hoB) hselP hmethM habM hkP hkPi (g := F0 m pc ls ((as.reverse ++ .ref a :: st).map (rv sg))) rfl (argsL := as.map (rv sg)) (rest := st.map (rv sg)) hlen (by simp [rv]) (by rw [C.2.1]; exact hd)
  obtain ⟨t, a1, b1⟩ := RX_back (as := .ref a :: as) hR C hl hH hS hdp ok.1.2.2.2 ok.1.1 ok.1.2.1 hcat hc hs hd hM (U := T.setVm vm₁) hT X₁ (X₁.named hnamed)
  exact ⟨t, hstep₁ _ fun acts => by rw [doInvoke_state]; exact a1, b1⟩
theorem cov_of {c : Code} {qs : List Qd} (hE : c.exceptionTable.toList.map (fun x => (x.startPc, x.endPc, x.handlerPc, x.catchType)) = qs) {pc : Nat} (h : qs.all (fun q => !(decide (q.1 ≤ pc) && decide (pc < q.2.1))) = true) : ∀ x ∈ c.exceptionTable.toList, covers x pc = false := by
  intro x hx
  have h1 : (x.startPc, x.endPc, x.handlerPc, x.catchType) ∈ qs := by rw [← hE]; exact List.mem_map.mpr ⟨x, hx, rfl⟩
  have h2 := List.all_eq_true.mp h _ h1
  simp only [Bool.not_eq_true'] at h2
  exact h2
theorem rt_leave {J : Jb} {ce sl pc : Nat} {lv : List (Option Value)} {a : Nat} {Cn : String} {h : AHp} (hout : J.1.2.2.2.2.all (fun q => !(decide (q.1 ≤ pc) && decide (pc < q.2.1))) = true) (hc : ce ≤ J.2.2.1) (hs : sl ≤ J.2.2.2.1) (hQ : J.2.2.2.2 (.inr (a, Cn)) h) : RT J ce sl pc lv a Cn h := by
  intro l G sg R p e s m args below meth c H locs ls stk hR C hl hH hS hcell T hT X
  have hlk : meth.locks = false := C.2.2.2.2.2.2.1
  have X' := stand_widen X hc hs
  obtain ⟨h1, h2, h3, h4, h5⟩ := X'.leaveThrown (sg a) (g := F0 m pc ls stk) rfl rfl rfl (cov_of C.2.2.2.2.2.2.2.2.2.2.1 hout) hlk
  refine ⟨_, h1, .threw (sg a), h2, h3, ⟨.inr (a, Cn), h, ⟨rfl, ?_⟩, hQ, ?_, ?_⟩, locs, ⟨h4, h5⟩, hS.2.2⟩
  · show ∃ cell : Cell, T.heap[sg a]? = some cell ∧ _
    rw [hT]; exact hcell
  · show Hd G sg h T.heap
    rw [hT]; exact hH
  · refine ⟨?_, fun q h1 h2 => ?_⟩
    · show s.heap.size ≤ T.heap.size
      rw [hT]; exact hS.1
    · show T.heap[q]? = s.heap[q]?
      rw [hT]; exact hS.2.1 q h1 h2
/-- the search, through some entries: found, and the tables that it leaves -/
def Srch (e : Env) (s : State) (f : JFrame) (a : Addr) (ts : List ExceptionTableEntry) (hp : Nat) (vm' : Vm) : Prop :=
  ∀ (Q : Handler → Pre) (E : CtlPost) (d : Bool) (acts : List Action), wp (findHandler.go f a ts) Q E e d acts s ↔ Q (.found hp) d acts (s.setVm vm')
theorem go_link {Q : Handler → Pre} {E : CtlPost} {e : Env} {d : Bool} {acts : List Action} {s : State} {f : JFrame} {a : Addr} {x : ExceptionTableEntry} {t : List ExceptionTableEntry} {c : ClassId} {cell : Cell} (hx : covers x f.pc = true) (h0 : x.catchType ≠ 0)
    (hl : s.vm.ClassLinks e.platform f.method.cls x.catchType c) (hcell : s.heap[a]? = some cell) (hobj : ∀ k, cell.vm ≠ .statics k) (hk : ∃ k, s.vm.classes[cell.cls]? = some k) (hc : ∃ k, s.vm.classes[c]? = some k) :
    wp (findHandler.go f a (x :: t)) Q E e d acts s ↔ if s.vm.assignable cell.cls c = true then Q (.found x.handlerPc) d acts (s.setVm (s.vm.noted f.method.cls x.catchType (.cls c))) else wp (findHandler.go f a t) Q E e d acts (s.setVm (s.vm.noted f.method.cls x.catchType (.cls c))) := by
  simp only [covers] at hx
  obtain ⟨ha, ht⟩ := (resolveClass_links e.toSetting hl).op (op := VmOp.resolveClass f.method.cls x.catchType) rfl
  have hal : s.vm.Alike (s.vm.noted f.method.cls x.catchType (.cls c)) := (Vm.Alike.refl s.vm).noted _ _ _
  obtain ⟨k1, hk1⟩ := hk
  obtain ⟨k2, hk2⟩ := hc
  obtain ⟨k1', hk1', -⟩ := hal.2.2 _ _ hk1
  obtain ⟨k2', hk2', -⟩ := hal.2.2 _ _ hk2
  have hfit' : (s.vm.noted f.method.cls x.catchType (.cls c)).assignable cell.cls c = s.vm.assignable cell.cls c := hal.assignable _ _
  cases hf : s.vm.assignable cell.cls c
  · rw [hf] at hfit'
    simp [findHandler.go, hx, h0, ha, ht, hcell, hobj, hk1', hk2', hfit', VmOp.dirties, VmOp.acts]
  · rw [hf] at hfit'
    simp [findHandler.go, hx, h0, ha, ht, hcell, hobj, hk1', hk2', hfit', VmOp.dirties, VmOp.acts]
/-- what the entries say of a class that is thrown at pc: the handler at hp -/
def SrP (own Cn : String) (pc hp : Nat) (G : GX) : List Qd → Prop
  | [] => False
  | q :: qs => (decide (q.1 ≤ pc) && decide (pc < q.2.1)) = false ∧ SrP own Cn pc hp G qs ∨ ((decide (q.1 ≤ pc) && decide (pc < q.2.1)) = true ∧ q.2.2.2 ≠ 0 ∧ ∃ nm, Cond.classLink own q.2.2.2 nm ∈ lw_all ∧ (Cond.castable Cn nm ∈ lw_tbl ∧ q.2.2.1 = hp ∨ (Cond.not (.castable Cn nm)).before G.2.2.2.2.2.2.2 G.2.2.2.2.2.2.1 = true ∧ SrP own Cn pc hp G qs))
theorem srch {p : Program} {l : Launch} {e : Env} {R : Room} {s : State} {m : MethodId} {args : Array Value} {below : List Frame} {meth : Method} {c : Code} {locs : List Loc} {cells slots : Nat} {G : GX} {own Cn : String} {a : Addr} {g : JFrame} {hp : Nat} {cell : Cell}
    (hgp : GP G s) (hts : ∀ w ∈ lw_all, w.before args s = true) (hown : s.vm.findClass own = some m.cls) (hg : g.method = m) (hobj : cell.vm.isStatics = false) (hcls : s.vm.findClass Cn = some cell.cls) :
    ∀ (ts : List ExceptionTableEntry) (T : State), Stand p l e R s m args below meth c T locs cells slots → T.heap[a]? = some cell → SrP own Cn g.pc hp G (ts.map (fun x => (x.startPc, x.endPc, x.handlerPc, x.catchType))) → ∃ vm', s.WarmedH vm' ∧ Srch e ((T.setTop g).pushFrame (.throwing a)) g a ts hp vm' := by
  intro ts
  induction ts with
  | nil => intro T X hcell h; exact h.elim
  | cons x ts ih =>
    intro T X hcell h
    rcases h with ⟨h1, h2⟩ | ⟨h1, h0, nm, hlk, h2⟩
    · obtain ⟨vm', hw, hsr⟩ := ih T X hcell h2
      exact ⟨vm', hw, fun Q E d acts => (W.findHandler_go_skip h1).trans (hsr Q E d acts)⟩
    · have hpl : e.platform.magicAccessors = ({} : Platform).magicAccessors := by rw [X.admits.platform]
      obtain ⟨cT, hcT, hcl⟩ := Cond.classLink_spec hown (hts _ hlk) e.platform hpl
      obtain ⟨dk, _, _, kt, hd, _, _, _, _, hkt, _, hopen⟩ := hcl.here
      have hcl₀ := X.warmed.classLinks hcl
      have hW' : s.WarmedH (T.vm.noted m.cls x.catchType (.cls cT)) := X.warmed.noted hd hopen (State.rightAt_cls hcl)
      have hal := X.warmed.alike
      obtain ⟨kt', hkt', -⟩ := hal.2.2 _ _ hkt
      obtain ⟨kc, hkc⟩ := Vm.classAt_of_findClass hcls
      obtain ⟨kc', hkc', -⟩ := hal.2.2 _ _ hkc
      have key : ∀ (Q : Handler → Pre) (E : CtlPost) (d : Bool) (acts : List Action), wp (findHandler.go g a (x :: ts)) Q E e d acts ((T.setTop g).pushFrame (.throwing a)) ↔ if T.vm.assignable cell.cls cT = true then Q (.found x.handlerPc) d acts (((T.setTop g).pushFrame (.throwing a)).setVm (T.vm.noted g.method.cls x.catchType (.cls cT))) else wp (findHandler.go g a ts) Q E e d acts (((T.setTop g).pushFrame (.throwing a)).setVm (T.vm.noted g.method.cls x.catchType (.cls cT))) := by
        intro Q E d acts
        have hv : ((T.setTop g).pushFrame (.throwing a)).vm = T.vm := Stand.throwing_vm T g a
        have := go_link (Q := Q) (E := E) (e := e) (d := d) (acts := acts) (s := (T.setTop g).pushFrame (.throwing a)) (f := g) (a := a) (x := x) (t := ts) (c := cT) (cell := cell) h1 h0 (by rw [hv, hg]; exact hcl₀) (by rw [Stand.throwing_heap]; exact hcell) (VmData.ne_statics_of hobj) (by rw [hv]; exact ⟨kc', hkc'⟩) (by rw [hv]; exact ⟨kt', hkt'⟩)
        rw [hv] at this
        exact this
      rw [hg] at key
      have hol := hgp.2.2.2.2.2.2.2
      rcases h2 with ⟨h2, h3⟩ | ⟨h2, h3⟩
      · have hcast : va_Nw (.castable Cn nm) s := va_Nw.warmC hol.1 (va_Nw.of rfl (hol.2.2.2.1 _ h2))
        obtain ⟨c3, t3, w1, w2, w3⟩ := Cond.castable_spec (args := #[]) (first := s) (o := none) (idx := []) hcast
        cases hcls.symm.trans w1
        cases hcT.symm.trans w2
        refine ⟨_, hW', fun Q E d acts => ?_⟩
        rw [key, if_pos (by rw [hal.assignable]; exact w3)]
        have h3 : x.handlerPc = hp := h3
        rw [h3]
      · obtain ⟨c3, t3, w1, w2, w3⟩ := (va_Nc.of h2).moved hol.1.alike
        cases hcls.symm.trans w1
        cases hcT.symm.trans w2
        obtain ⟨vm', hw, hsr⟩ := ih (T.setVm (T.vm.noted m.cls x.catchType (.cls cT))) (X.noted hW') hcell h3
        refine ⟨vm', hw, fun Q E d acts => ?_⟩
        rw [key, if_neg (by rw [hal.assignable, w3]; decide)]
        exact hsr Q E d acts
/-- caught -/
theorem rt_catch {J : Jb} {ce sl pc hp : Nat} {lv : List (Option Value)} {a : Nat} {Cn : String} {h : AHp} (hsr : ∀ G : GX, K0 G → SrP J.1.1.cls Cn pc hp G J.1.2.2.2.2) (k : Rch J ce sl hp lv [.ref a] h) : RT J ce sl pc lv a Cn h := by
  intro l G sg R p e s m args below meth c H locs ls stk hR C hl hH hS hcell T hT X
  obtain ⟨cell, w1, w2, w3⟩ := hcell
  obtain ⟨vm', hw, hf⟩ := srch (g := F0 m pc ls stk) (hp := hp) C.2.2.2.2.2.2.2.2.1 C.2.2.2.2.2.1 C.2.2.2.2.1 rfl w2 w3 c.exceptionTable.toList T X (by rw [hT]; exact w1) (by rw [C.2.2.2.2.2.2.2.2.2.2.1]; exact hsr G C.2.2.2.2.2.2.2.2.1.2.2.2.2.2.2.2.2.2.2)
  obtain ⟨t, a1, b1⟩ := k l G sg R p e s m args below meth c H locs ls hR C hl hH hS (T.setVm vm') hT (X.noted hw)
  refine ⟨t, ?_, b1⟩
  have hA : At T m c below := X.here
  obtain ⟨hgo, hwi⟩ := At.throwing (g := F0 m pc ls stk) hA (sg a)
  refine Steps.head hgo hwi ?_
  have hstep : (stepThrowing e ((T.setTop (F0 m pc ls stk)).pushFrame (.throwing (sg a))) (sg a) (.java (F0 m pc ls stk) :: T.frames.tail)).Is ((((T.setTop (F0 m pc ls stk)).pushFrame (.throwing (sg a))).setVm vm').setFrames (.java (F0 m hp ls [.ref (sg a)]) :: T.frames.tail)) [] := by
    simp only [stepThrowing, searchFrame, vmDo]
    generalize hr : Sem.go _ e false [] ((T.setTop (F0 m pc ls stk)).pushFrame (.throwing (sg a))) = res
    obtain ⟨as, rfl, ha⟩ := Sem.eq_ok_of hr (a := Handler.found hp) (s' := ((T.setTop (F0 m pc ls stk)).pushFrame (.throwing (sg a))).setVm vm') (acts' := []) (by
      have hm' : ((T.setTop (F0 m pc ls stk)).pushFrame (.throwing (sg a))).vm.method? (F0 m pc ls stk).method = some meth := by rw [Stand.throwing_vm]; exact X.method'
      simp [W.findHandler_eq hm' X.code, hf _ _ _ _])
    exact ⟨rfl, ha⟩
  rw [stepThread_throwing (frames_entered hA.top _), hstep.1]
  obtain ⟨g₀, hr⟩ := X.frames_eq
  have hr' : (T.setVm vm').frames = .java g₀ :: below := hr
  have e1 : ((((T.setTop (F0 m pc ls stk)).pushFrame (.throwing (sg a))).setVm vm').setFrames (.java (F0 m hp ls [.ref (sg a)]) :: T.frames.tail)) = (T.setVm vm').setTop (F0 m hp ls [.ref (sg a)]) := by
    rw [State.setTop_of_frames _ hr', State.pushFrame, State.setTop_of_frames _ hr, hr, List.tail_cons]
    have h1 : ∀ (u : State) (F F' : List Frame), ((u.setFrames F).setVm vm').setFrames F' = (u.setVm vm').setFrames F' := fun u F F' => by
      have h1 : (u.setFrames F).setVm vm' = (u.setVm vm').setFrames F := rfl
      rw [h1, State.setFrames_setFrames]
    rw [h1, h1]
  rw [e1]
  exact a1
theorem r_athrow {J : Jb} {ce sl pc : Nat} {lv : List (Option Value)} {st : List Value} {h : AHp} {ci a : Nat} {fs : List Value} {N : Nat} {Cn : String} {T : u_T} {ty : Nat → FieldType} (hd : decode J.1.2.1 pc = .ok (.athrow, 1)) (b : FB ci Cn T N ty) (hg : aGet h a = some (.inr (ci, fs))) (k : RT J ce sl pc lv a Cn h) : Rch J ce sl pc lv (.ref a :: st) h := by
  intro l G sg R p e s m args below meth c H locs ls hR C hl hH hS T hT X
  obtain ⟨q0, e1, -⟩ := wso_at (G := G) (sg := sg) (show kn (.inr (ci, fs)) = true from b.2.2.2.2) hg
  obtain ⟨t, a1, b1⟩ := k l G sg R p e s m args below meth c H locs ls (st.map (rv sg)) hR C hl hH hS (va_recv C.2.2.2.2.2.2.2.2.1.1 hH.1 b.1 e1) T hT X
  refine ⟨t, ?_, b1⟩
  have hexec := C.1
  have hb : c.code = J.1.2.1 := C.2.1
  show Steps p.tables e below (T.setTop (F0 m pc ls (.ref (sg a) :: st.map (rv sg)))) t
  have hstack : (F0 m pc ls (.ref (sg a) :: st.map (rv sg))).stack = .ref (sg a) :: st.map (rv sg) := rfl
  have hdg : decode c.code (F0 m pc ls (.ref (sg a) :: st.map (rv sg))).pc = .ok (.athrow, 1) := by rw [hb]; exact hd
  have hh : At T (F0 m pc ls (.ref (sg a) :: st.map (rv sg))).method c below := X.here
  jvm_step hh [hexec, hdg, athrow.wp_sem, hstack]
  exact a1
/-- a leaf of the premises by its path -/
def aS (b : Bool) : Cond → Cond
  | .and x y => if b then y else x
  | c => c
theorem aS_ok {args : Array Value} {s : State} (b : Bool) (c : Cond) (h : c.before args s = true) : (aS b c).before args s = true := by
  unfold aS
  split
  · rename_i x y
    rw [Cond.before_and, Bool.and_eq_true] at h
    cases b
    · exact h.1
    · exact h.2
  · exact h
def aP : List Bool → Cond → Cond
  | [], c => c
  | b :: p, c => aP p (aS b c)
theorem aP_ok {args : Array Value} {s : State} : ∀ (p : List Bool) (c : Cond), c.before args s = true → (aP p c).before args s = true
  | [], _, h => h
  | b :: p, c, h => aP_ok p _ (aS_ok b c h)
theorem nar {G : GX} (h : K0 G) (p : List Bool) {w : Cond} (e : aP p narrow_1 = w) : w.before G.2.2.2.2.2.2.2 G.2.2.2.2.2.2.1 = true := by
  rw [← e]
  have h1 := h.2.1
  rw [Cond.before_and, Bool.and_eq_true] at h1
  exact aP_ok p _ h1.2
