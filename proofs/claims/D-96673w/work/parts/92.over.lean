set_option maxRecDepth 100000
/-! the machine's own exception over a native method's frame -/
/-- a state that goes on -/
def GoesB (W : State) (B below : List Frame) : Prop := W.status = .running ∧ W.curStatus? = some .runnable ∧ W.alone = true ∧ W.cur < W.threads.size ∧ ∃ mid, B = mid ++ below
/-- the constructor is called over the note and comes back: the object is thrown over B -/
theorem ov_shell {tb : Tables} [Ours tb] {e : Env} {below B : List Frame} {s₀ W : State} (hG : GoesB W B below) (hexec : tb.exec = Jvm.exec) (hW : s₀.WarmedH W.vm) {H : State → State} (hH : HeapOnly H) (a : Addr) {m : MethodId} {meth : Method} {code : Code} {ar : Array Value} {f5 : JFrame}
    (hm : ∀ vm, s₀.WarmedH vm → vm.method? m = some meth) (hc : meth.code = some code) (hl : meth.locks = false) (hp : ∀ vm, s₀.WarmedH vm → (W.setVm vm).plainMethod m) (h5 : f5.method = m ∧ f5.locked = none ∧ f5.entered = []) (hret : decode code.code f5.pc = .ok (.return_, 1))
    (hroom : e.platform.stackFull (((W.setFrames (.thenThrow a :: B)).threads[(W.setFrames (.thenThrow a :: B)).cur]?).getD { frames := [] }) (W.setFrames (.thenThrow a :: B)).frames code.maxLocals = false)
    (inner : ∀ V : State, V = (W.setFrames (.thenThrow a :: B)).pushFrame (.java (entryFrame m ar code.maxLocals)) → At V m code below → V.frames = .java (entryFrame m ar code.maxLocals) :: .thenThrow a :: B → ∃ vm2, s₀.WarmedH vm2 ∧ ∀ t', Steps tb e below ((H (V.setVm vm2)).setTop f5) t' → Steps tb e below (V.setTop (entryFrame m ar code.maxLocals)) t') :
    ∃ vm', s₀.WarmedH vm' ∧ ∀ target, Steps tb e below ((H (W.setVm vm')).setFrames (.throwing a :: B)) target → Steps tb e below (doInvoke e (W.setFrames (.thenThrow a :: B)) [] m ar).1 target := by
  obtain ⟨g1, g2, g3, g4, mid, hmid⟩ := hG
  have hfN : ∀ U : State, U.cur < U.threads.size → (U.setFrames (.thenThrow a :: B)).frames = .thenThrow a :: B := fun U h => State.frames_setFrames _ h
  have key : ∀ U : State, U.status = .running → U.curStatus? = some .runnable → U.alone = true → U.cur < U.threads.size → U.vm.method? m = some meth → U.plainMethod m →
      At ((U.setFrames (.thenThrow a :: B)).pushFrame (.java (entryFrame m ar code.maxLocals))) m code below ∧ ((U.setFrames (.thenThrow a :: B)).pushFrame (.java (entryFrame m ar code.maxLocals))).frames = .java (entryFrame m ar code.maxLocals) :: .thenThrow a :: B := by
    intro U r1 r2 r3 r4 r5 r6
    have hf := hfN U r4
    have hcurN : (U.setFrames (.thenThrow a :: B)).cur < (U.setFrames (.thenThrow a :: B)).threads.size := State.cur_lt_of_frames hf
    refine ⟨At.pushOn _ ⟨r1, by simpa using r2, by simpa using r3⟩ hcurN ⟨.thenThrow a :: mid, by rw [hf, hmid]; rfl⟩ r5 hc r6, ?_⟩
    rw [show ((U.setFrames (.thenThrow a :: B)).pushFrame (.java (entryFrame m ar code.maxLocals))).frames = .java (entryFrame m ar code.maxLocals) :: (U.setFrames (.thenThrow a :: B)).frames from State.frames_setFrames _ hcurN, hf]
  obtain ⟨k1, k2⟩ := key W g1 g2 g3 g4 (hm _ hW) (hp _ hW)
  obtain ⟨vm2, hW2, st⟩ := inner _ rfl k1 k2
  refine ⟨vm2, hW2, fun target hrest => ?_⟩
  rw [(doInvoke_java (s := W.setFrames (.thenThrow a :: B)) (e := e) (acts := []) (args := ar) (meth := meth) (code := code) (hm _ hW) hc hl hroom).1]
  show Steps tb e below ((W.setFrames (.thenThrow a :: B)).pushFrame (.java (entryFrame m ar code.maxLocals))) target
  rw [← State.setTop_self (s := (W.setFrames (.thenThrow a :: B)).pushFrame (.java (entryFrame m ar code.maxLocals))) (State.topJava?_of_frames k2)]
  refine st target ?_
  have eV : ((W.setFrames (.thenThrow a :: B)).pushFrame (.java (entryFrame m ar code.maxLocals))).setVm vm2 = ((W.setVm vm2).setFrames (.thenThrow a :: B)).pushFrame (.java (entryFrame m ar code.maxLocals)) := by rw [State.pushFrame_setVm, State.setFrames_setVm]
  rw [eV]
  obtain ⟨k3, k4⟩ := key (W.setVm vm2) g1 g2 g3 g4 (hm _ hW2) (hp _ hW2)
  generalize eW : W.setVm vm2 = W2 at hrest k3 k4 ⊢
  have c1 : W2.status = .running := by rw [← eW]; exact g1
  have c2 : W2.curStatus? = some .runnable := by rw [← eW]; exact g2
  have c3 : W2.alone = true := by rw [← eW]; exact g3
  have c4 : W2.cur < W2.threads.size := by rw [← eW]; exact g4
  have c5 : W2.vm.method? m = some meth := by rw [← eW]; exact hm _ hW2
  have hB : At (H ((W2.setFrames (.thenThrow a :: B)).pushFrame (.java (entryFrame m ar code.maxLocals)))) f5.method code below := by rw [h5.1]; exact hH.at_ k3
  jvm_step hB [hexec, hret, return_.wp_sem]
  intro acts2
  have hfH : (H ((W2.setFrames (.thenThrow a :: B)).pushFrame (.java (entryFrame m ar code.maxLocals)))).frames = .java (entryFrame m ar code.maxLocals) :: .thenThrow a :: B := by rw [hH.frames]; exact k4
  rw [ret_to (t := H ((W2.setFrames (.thenThrow a :: B)).pushFrame (.java (entryFrame m ar code.maxLocals)))) (f := f5) (f₀ := entryFrame m ar code.maxLocals) (below := .thenThrow a :: B) (fs := .thenThrow a :: B) (meth := meth) hfH (by rw [hH.vm, h5.1]; exact c5) hl h5.2.1 h5.2.2 rfl acts2]
  have hHI : ∀ F, (H ((W2.setFrames (.thenThrow a :: B)).pushFrame (.java (entryFrame m ar code.maxLocals)))).setFrames F = (H W2).setFrames F := by
    intro F
    rw [State.pushFrame, hH.setFrames, hH.setFrames, State.setFrames_setFrames, State.setFrames_setFrames]
  rw [hHI]
  have hHk : At (H ((W2.setFrames (.thenThrow a :: B)).pushFrame (.java (entryFrame m ar code.maxLocals)))) m code below := hH.at_ k3
  have hcurH : (H W2).cur < (H W2).threads.size := by
    have h1 := State.cur_lt_of_frames hfH
    rw [State.pushFrame, hH.setFrames, hH.setFrames] at h1
    simpa [State.setFrames] using h1
  have hf1 : ((H W2).setFrames (.thenThrow a :: B)).frames = .thenThrow a :: B := State.frames_setFrames _ hcurH
  have hgo : ((H W2).setFrames (.thenThrow a :: B)).goesOn := by
    have h1 := hHk.running
    have h2 := hHk.runnable
    have h3 := hHk.alone
    rw [State.pushFrame, hH.setFrames, hH.setFrames] at h1 h2 h3
    exact ⟨h1, by simpa using h2, by simpa using h3⟩
  refine Steps.head hgo ⟨.thenThrow a :: mid, by rw [hf1, hmid]; rfl, by simp, by simp⟩ ?_
  rw [stepThread_thenThrow hf1]
  show Steps tb e below (((H W2).setFrames (.thenThrow a :: B)).setFrames (.throwing a :: B)) target
  rw [State.setFrames_setFrames]
  exact hrest
