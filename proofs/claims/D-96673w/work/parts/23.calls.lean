set_option maxRecDepth 100000
/-! returns, calls, a method's entry (printed by gen/calls.py) -/
theorem W.mono {p : Program} {l : Launch} {e : Env} {R : Room} {s : State} {m : MethodId} {args : Array Value} {below : List Frame} {meth : Method} {c : Code} {H : Heap} {locs : List Loc} {cells slots : Nat} {Q Q' : State → Prop} {g : JFrame} (hq : ∀ t, Q t → Q' t) (k : W p l e R s m args below meth c H locs cells slots Q g) : W p l e R s m args below meth c H locs cells slots Q' g := fun T hT X => by
  obtain ⟨t, a, b⟩ := k T hT X
  exact ⟨t, a, hq t b⟩
/-- a return's end -/
theorem MQX.ofMQ {below : List Frame} {G : GX} {sg : Nat → Nat} {Q : OC → AHp → Prop} {s : State} {args : Array Value} {mc ms : Nat} {h : AHp} {r : Option Value} {H : Heap} (hQ : Q (.inl r) h) : ∀ t, MQ below (fun _ st o t => o = .returned (r.map (rv sg)) ∧ Hd G sg h t.heap ∧ va_F (gA G) st t) args s mc ms (gA G) t → MQX below G sg Q s mc ms t := by
  intro t ⟨o, h1, h2, ⟨h3, h4, h5⟩, L, h6, h7⟩
  exact ⟨o, h1, h2, ⟨.inl r, h, h3, hQ, h4, h5⟩, L, h6.2, h7⟩
theorem r_iret {J : Jb} {ce sl pc : Nat} {lv : List (Option Value)} {h : AHp} {v : Int32} (hd : decode J.1.2.1 pc = .ok (.ireturn, 1)) (hr : J.1.2.2.2.1 = some .int) (hc : ce ≤ J.2.2.1) (hs : sl ≤ J.2.2.2.1) (hQ : J.2.2.2.2 (.inl (some (.int v))) h) : Rch J ce sl pc lv [.int v] h := by
  intro l G sg R p e s m args below meth c H locs ls hR C hl hH hS
  refine W.widen hc hs (W.mono (MQX.ofMQ (args := args) (H := H) hQ) ?_)
  have hlk : meth.locks = false := C.2.2.2.2.2.2.1
  exact W.iret (v := v) C.1 C.2.1 (C.2.2.1.trans hr) (fun t ht _ => ⟨rfl, by rw [ht]; exact hH, hS.F ht⟩) hS.2.2 hd
theorem r_zret {J : Jb} {ce sl pc : Nat} {lv : List (Option Value)} {h : AHp} {v : Int32} {ty : FieldType} (hd : decode J.1.2.1 pc = .ok (.ireturn, 1)) (hr : J.1.2.2.2.1 = some ty) (hn : narrow ty (.int v) = .int v) (hc : ce ≤ J.2.2.1) (hs : sl ≤ J.2.2.2.1) (hQ : J.2.2.2.2 (.inl (some (.int v))) h) : Rch J ce sl pc lv [.int v] h := by
  intro l G sg R p e s m args below meth c H locs ls hR C hl hH hS
  refine W.widen hc hs (W.mono (MQX.ofMQ (args := args) (H := H) hQ) ?_)
  have hlk : meth.locks = false := C.2.2.2.2.2.2.1
  exact W.zret (v := v) C.1 C.2.1 (C.2.2.1.trans hr) hn (fun t ht _ => ⟨rfl, by rw [ht]; exact hH, hS.F ht⟩) hS.2.2 hd
theorem r_lret {J : Jb} {ce sl pc : Nat} {lv : List (Option Value)} {h : AHp} {v : Int64} (hd : decode J.1.2.1 pc = .ok (.lreturn, 1)) (hr : J.1.2.2.2.1 = some .long) (hc : ce ≤ J.2.2.1) (hs : sl ≤ J.2.2.2.1) (hQ : J.2.2.2.2 (.inl (some (.long v))) h) : Rch J ce sl pc lv [.long v] h := by
  intro l G sg R p e s m args below meth c H locs ls hR C hl hH hS
  refine W.widen hc hs (W.mono (MQX.ofMQ (args := args) (H := H) hQ) ?_)
  have hlk : meth.locks = false := C.2.2.2.2.2.2.1
  exact W.lret (v := v) C.1 C.2.1 (C.2.2.1.trans hr) (fun t ht _ => ⟨rfl, by rw [ht]; exact hH, hS.F ht⟩) hS.2.2 hd
theorem r_vret {J : Jb} {ce sl pc : Nat} {lv : List (Option Value)} {h : AHp}  (hd : decode J.1.2.1 pc = .ok (.return_, 1)) (hr : J.1.2.2.2.1 = none) (hc : ce ≤ J.2.2.1) (hs : sl ≤ J.2.2.2.1) (hQ : J.2.2.2.2 (.inl none) h) : Rch J ce sl pc lv [] h := by
  intro l G sg R p e s m args below meth c H locs ls hR C hl hH hS
  refine W.widen hc hs (W.mono (MQX.ofMQ (args := args) (H := H) hQ) ?_)
  have hlk : meth.locks = false := C.2.2.2.2.2.2.1
  exact W.vret C.1 C.2.1 (C.2.2.1.trans hr) (fun t ht _ => ⟨rfl, by rw [ht]; exact hH, hS.F ht⟩) hS.2.2 hd
theorem r_aret {J : Jb} {ce sl pc : Nat} {lv : List (Option Value)} {h : AHp} {a : Nat} {rt : FieldType} (hd : decode J.1.2.1 pc = .ok (.areturn, 1)) (hr : J.1.2.2.2.1 = some rt) (hrt : (∃ n, rt = .object n) ∨ ∃ t, rt = .array t) (hc : ce ≤ J.2.2.1) (hs : sl ≤ J.2.2.2.1) (hQ : J.2.2.2.2 (.inl (some (.ref a))) h) : Rch J ce sl pc lv [.ref a] h := by
  intro l G sg R p e s m args below meth c H locs ls hR C hl hH hS
  refine W.widen hc hs (W.mono (MQX.ofMQ (args := args) (H := H) hQ) ?_)
  have hlk : meth.locks = false := C.2.2.2.2.2.2.1
  exact W.aret (v := .ref (sg a)) C.1 C.2.1 (C.2.2.1.trans hr) hrt (Or.inr ⟨_, rfl⟩) (fun t ht _ => ⟨rfl, by rw [ht]; exact hH, hS.F ht⟩) hS.2.2 hd
/-- what a contract's end says -/
def Qm (G : GX) (sg : Nat → Nat) (Q : Option Value → AHp → Prop) : Array Value → State → Outcome → State → Prop := fun _ st o t => ∃ (r : Option Value) (h' : AHp), o = .returned (r.map (rv sg)) ∧ Q r h' ∧ Hd G sg h' t.heap ∧ va_F (gA G) st t
def Pm (G : GX) (sg : Nat → Nat) (as : List Value) (h : AHp) : Array Value → State → Prop := va_Pc (as.map (rv sg)) (fun U => GP G U ∧ G.2.2.1 ≤ U.heap.size ∧ Hd G sg h U.heap)
/-- THE CONTRACT of a method without handlers that returns: depth d, at most mc cells of ms slots are new -/
def AMet (M : MI) (d mc ms : Nat) (as : List Value) (h : AHp) (Q : Option Value → AHp → Prop) : Prop :=
  ∀ (l : Launch) (G : GX) (sg : Nat → Nat), l.flags = flags0 → Met l M.1 (ws_ M.1 M.2.1 M.2.2.1 M.2.2.2.1) (rmD d mc ms) (Pm G sg as h) (Qm G sg Q) mc ms (gA G)
def oQ (Q : Option Value → AHp → Prop) : OC → AHp → Prop := fun x h => match x with
  | .inl r => Q r h
  | .inr _ => False
def lvE : List Value → List (Option Value)
  | [] => []
  | v :: vs => if v.category = 2 then some v :: none :: lvE vs else some v :: lvE vs
theorem lvE_get (sg : Nat → Nat) : ∀ (vs : List Value) (i j : Nat) (v : Value), (lvE vs)[j]? = some (some v) → (i + j, rv sg v) ∈ lv_args i (vs.map (rv sg))
  | [], i, j, v, h => by simp [lvE] at h
  | w :: vs, i, j, v, h => by
    simp only [List.map_cons, lv_args, rv_cat]
    by_cases hc : w.category = 2
    · simp only [lvE, hc, if_true] at h ⊢
      match j, h with
      | 0, h => cases h; exact List.mem_cons_self
      | 1, h => cases h
      | j + 2, h =>
        have := lvE_get sg vs (i + 2) j v h
        rw [show i + 2 + j = i + (j + 2) by omega] at this
        exact List.mem_cons_of_mem _ this
    · simp only [lvE, hc, if_false] at h ⊢
      match j, h with
      | 0, h => cases h; exact List.mem_cons_self
      | j + 1, h =>
        have := lvE_get sg vs (i + 1) j v h
        rw [show i + 1 + j = i + (j + 1) by omega] at this
        exact List.mem_cons_of_mem _ this
theorem lg_sl_len (sg : Nat → Nat) : ∀ vs : List Value, (lg_sl (vs.map (rv sg))).length = (lvE vs).length
  | [] => rfl
  | w :: vs => by
    have ih := lg_sl_len sg vs
    unfold lg_sl at ih ⊢
    by_cases hc : w.category = 2
    · simp only [List.map_cons, List.flatMap_cons, rv_cat, hc, if_true, lvE, List.length_append, ih]
      simp; omega
    · simp only [List.map_cons, List.flatMap_cons, rv_cat, hc, if_false, lvE, List.length_append, ih]
      simp; omega
/-- A METHOD BY ITS BODY -/
theorem AMet.ofRch {M : MI} {d mc ms : Nat} {as : List Value} {h : AHp} {Q : Option Value → AHp → Prop} (hy : plainName M.1.cls = true) (hh : M.2.2.2.2 = []) (hn : (lvE as).length ≤ M.2.2.1) (k : Rch (M, d, mc, ms, oQ Q) 0 0 0 (lvE as ++ List.replicate (M.2.2.1 - (lvE as).length) none) [] h) : AMet M d mc ms as h Q := by
  intro l G sg hfl
  refine Met.ofW (cc := M.2.1) (maxL := M.2.2.1) (ret := M.2.2.2.1) hy rfl ?_
  intro p e s m args below meth c s₁ B hml hv
  obtain ⟨rfl, hgp, hsz, hH⟩ := hv
  have hts := atoms_spec (ws := ws_ M.1 M.2.1 M.2.2.1 M.2.2.2.1) B.pre
  have htb : c.exceptionTable.toList.map (fun x => (x.startPc, x.endPc, x.handlerPc, x.catchType)) = M.2.2.2.2 := by
    have h1 := B.noHandlers (hts _ List.mem_cons_self)
    rw [hh, List.map_eq_nil_iff, Array.toList_eq_nil_iff]
    exact Array.isEmpty_iff.mp h1
  have hts : ∀ w ∈ lw_all, w.before _ s = true := fun w h => hts w (List.mem_cons_of_mem _ h)
  have hl := lv_entry (as.map (rv sg)) (n := M.2.2.1) (by rw [lg_sl_len]; exact hn)
  rw [lg_entry_eq]
  generalize (lg_sl (as.map (rv sg)) ++ List.replicate (M.2.2.1 - (lg_sl (as.map (rv sg))).length) Slot.unset).toArray = ls at hl ⊢
  have hl2 : LvH sg ls M.2.2.1 (lvE as ++ List.replicate (M.2.2.1 - (lvE as).length) none) := by
    refine ⟨hl.1, hl.2.1, fun i v hi => ?_⟩
    by_cases hlt : i < (lvE as).length
    · rw [List.getElem?_append_left hlt] at hi
      have := lvE_get sg as 0 i v hi
      rw [Nat.zero_add] at this
      exact hl.2.2 _ this
    · rw [List.getElem?_append_right (by omega), List.getElem?_replicate] at hi
      split at hi <;> cases hi
  have K := k l G sg (rmD d mc ms) p e s m (as.map (rv sg)).toArray below meth c s.heap [] ls ⟨Nat.le_refl _, Nat.le_refl _, Nat.le_refl _, Nat.le_refl _⟩ ⟨B.exec, B.bytes, B.returns, hml, findClass_of_methodNamed B.named, hts, B.notSynchronized, (name_of_methodNamed B.named B.method).1, hgp, hsz, htb, hfl⟩ hl2 hH va_S.rf
  refine W.mono (fun t ht => ?_) K
  obtain ⟨o, h1, h2, ⟨x, h', h3, h4, h5, h6⟩, L, h7, h8⟩ := ht
  match x, h3, h4 with
  | .inl r, h3, h4 => exact ⟨o, h1, h2, ⟨r, h', h3, h4, h5, h6⟩, L, ⟨⟨_, h3⟩, h7⟩, h8⟩
  | .inr _, _, h4 => exact h4.elim
theorem Pm.blind {G : GX} {sg : Nat → Nat} {as : List Value} {h : AHp} : FrameBlind (Pm G sg as h) := fun a U g mk q => ⟨q.1, q.2.1.call g mk a, q.2.2.1, q.2.2.2⟩
/-- behind any call -/
theorem Rch.back {J : Jb} {ce sl pc mc ms : Nat} {lv : List (Option Value)} {st : List Value} {p : Program} {l : Launch} {e : Env} {R : Room} {s : State} {m : MethodId} {args : Array Value} {below : List Frame} {meth : Method} {c : Code} {H : Heap} {locs : List Loc} {ls : Array Slot} {G : GX} {sg : Nat → Nat} {st0 : List Value} {a : Array Value} (hR : RmOk R J.2.1 J.2.2.1 J.2.2.2.1) (C : Cx J.1 G l p s m args meth c) (hl : LvH sg ls J.1.2.2.1 lv) (hS : va_S (gA G) s.heap H locs)
    (hr : va_Run p l e R s m args below meth c H locs ce sl mc ms (F0 m pc ls st0) (st.map (rv sg)) (Qm G sg (fun r h' => Rch J (ce + mc) (sl + ms) (pc + 3) lv (r.toList ++ st) h') a) (gA G)) : W p l e R s m args below meth c H locs ce sl (MQX below G sg J.2.2.2.2 s J.2.2.1 J.2.2.2.1) (F0 m pc ls st0) := by
  intro T hT X
  obtain ⟨v, s0, t, T', L, h0, X', hL, e1, e2, ⟨r, h', hv, hp, hH, hz, hk⟩, gs⟩ := hr T hT X
  cases hv
  rw [h0] at hz hk
  obtain ⟨t2, a1, b1⟩ := hp l G sg R p e s m args below meth c T'.heap (locs ++ L) ls hR C hl (by rw [e1]; exact hH) ⟨Nat.le_trans hS.1 (by rw [e1]; exact hz), fun q h1 h2 => by rw [e1, hk q (Nat.lt_of_lt_of_le h1 hS.1) h2]; exact hS.2.1 q h1 h2, fun q hq => by
      rcases List.mem_append.mp hq with h | h
      · exact hS.2.2 q h
      · exact hL q h⟩ T' rfl X'
  refine ⟨t2, gs t2 ?_, b1⟩
  have e3 : (r.map (rv sg)).toList ++ st.map (rv sg) = (r.toList ++ st).map (rv sg) := by cases r <;> simp
  rw [← e3] at a1
  exact a1
/-- what holds of a method whoever calls it -/
def MkC (M : MI) (n : Nat) : Prop := Cond.code M.1 M.2.1 M.2.2.1 M.2.2.2.1 ∈ lw_all ∧ Cond.initialized M.1.cls ∈ lw_all ∧ (M.1.cls ≠ "java/lang/invoke/MethodHandle" ∧ M.1.cls ≠ "java/lang/invoke/VarHandle" ∧ (parseMethodDescriptor M.1.desc).map (fun d => d.parameters.length) = some n) ∧ M.2.2.1 ≤ 21
def MkS (M : MI) (n : Nat) : Prop := MkC M n ∧ Cond.static M.1 ∈ lw_all
def MkV (M : MI) (n : Nat) : Prop := MkC M n ∧ Cond.instanceMethod M.1 ∈ lw_all ∧ Cond.selects M.1.cls M.1 M.1 ∈ lw_all
def MkI (M : MI) (n : Nat) : Prop := MkC M n ∧ Cond.instanceMethod M.1 ∈ lw_all ∧ M.1.name = "<init>" ∧ M.2.2.2.1 = none
theorem rmD_fits {R : Room} {d dJ mc ms mcJ msJ maxL : Nat} (hR : RmOk R dJ mcJ msJ) (hd : d + 1 ≤ dJ) (hm : maxL ≤ 21) : (rmD d mc ms).frames + 1 ≤ R.frames ∧ 8 + (maxL + 11) + (rmD d mc ms).locals ≤ R.locals := by
  obtain ⟨h1, h2, -, -⟩ := hR
  constructor
  · show 20 + d + 1 ≤ R.frames
    omega
  · show 8 + (maxL + 11) + (12000 + 40 * d) ≤ R.locals
    omega
theorem cat_map (sg : Nat → Nat) : ∀ st : List Value, ((st.map (rv sg)).map fun v => v.category) = st.map fun v => v.category
  | [] => rfl
  | v :: st => by simp only [List.map_cons, rv_cat]; rw [cat_map sg st]
theorem r_callS {J : Jb} {ce sl pc : Nat} {lv : List (Option Value)} {st : List Value} {h : AHp} {M : MI} {d mc ms n index : Nat} {as : List Value} (ok : MkS M n) (hq : Cond.methodLink J.1.1.cls index M.1 ∈ lw_all) (hd : decode J.1.2.1 pc = .ok (.invokestatic index, 3)) (hdp : d + 1 ≤ J.2.1) (hn : as.length = n) (hcat : (st.map fun v => v.category).sum ≤ 8) (hc : ce + mc ≤ J.2.2.1) (hs : sl + ms ≤ J.2.2.2.1) (hM : AMet M d mc ms as h (fun r h' => Rch J (ce + mc) (sl + ms) (pc + 3) lv (r.toList ++ st) h')) : Rch J ce sl pc lv (as.reverse ++ st) h := by
  intro l G sg R p e s m args below meth c H locs ls hR C hl hH hS
  refine Rch.back (st := st) (a := (as.map (rv sg)).toArray) (mc := mc) (ms := ms) hR C hl hS ?_
  exact va_runS (As := as.map (rv sg)) (rest := st.map (rv sg)) ⟨C.1, C.2.1, C.2.2.2.1, C.2.2.2.2.1, C.2.2.2.2.2.1⟩ (hM l G sg C.2.2.2.2.2.2.2.2.2.2.2) (va_cwS n C.2.2.2.2.2.1 (lw_S hq ok.2 ok.1.2.1 ok.1.1) rfl rfl rfl ok.1.2.2.1 (rmD_fits hR hdp ok.1.2.2.2)) ⟨Pm.blind, fun U hU hW => ⟨by simp, C.2.2.2.2.2.2.2.2.1.next hW C.2.2.2.2.2.2.2.2.2.1 (by rw [hU]; exact hS), by rw [hU]; exact hH.2.2.1, by rw [hU]; exact hH⟩⟩ rfl (by simpa using hn) hl.1 (by simp) (lv_room (by rw [cat_map]; exact hcat)) hd ⟨Nat.le_trans hc hR.2.2.1, Nat.le_trans hs hR.2.2.2⟩
theorem r_callSN {J : Jb} {ce sl pc : Nat} {lv : List (Option Value)} {st : List Value} {h : AHp} {M : MI} {d mc ms n index : Nat} {as : List Value} {host : String} (ok : MkS M n) (hq : (J.1.1.cls, index, M.1, host) ∈ nwM) (hd : decode J.1.2.1 pc = .ok (.invokestatic index, 3)) (hdp : d + 1 ≤ J.2.1) (hn : as.length = n) (hcat : (st.map fun v => v.category).sum ≤ 8) (hc : ce + mc ≤ J.2.2.1) (hs : sl + ms ≤ J.2.2.2.1) (hM : AMet M d mc ms as h (fun r h' => Rch J (ce + mc) (sl + ms) (pc + 3) lv (r.toList ++ st) h')) : Rch J ce sl pc lv (as.reverse ++ st) h := by
  intro l G sg R p e s m args below meth c H locs ls hR C hl hH hS
  refine Rch.back (st := st) (a := (as.map (rv sg)).toArray) (mc := mc) (ms := ms) hR C hl hS ?_
  exact va_runSN (host := host) (As := as.map (rv sg)) (rest := st.map (rv sg)) ⟨C.1, C.2.1, C.2.2.2.1, C.2.2.2.2.1, C.2.2.2.2.2.1⟩ (hM l G sg C.2.2.2.2.2.2.2.2.2.2.2) ⟨va_cnB n C.2.2.2.2.2.1 (lw_meth ok.1.1) rfl rfl rfl (C.2.2.2.2.2.2.2.2.1.2.1 _ hq) (C.2.2.2.2.2.1 _ ok.1.2.1) ok.1.2.2.1 (rmD_fits hR hdp ok.1.2.2.2), C.2.2.2.2.2.1 _ ok.2, trivial⟩ ⟨Pm.blind, fun U hU hW => ⟨by simp, C.2.2.2.2.2.2.2.2.1.next hW C.2.2.2.2.2.2.2.2.2.1 (by rw [hU]; exact hS), by rw [hU]; exact hH.2.2.1, by rw [hU]; exact hH⟩⟩ rfl (by simpa using hn) hl.1 (by simp) (lv_room (by rw [cat_map]; exact hcat)) hd ⟨Nat.le_trans hc hR.2.2.1, Nat.le_trans hs hR.2.2.2⟩
theorem r_callV {J : Jb} {ce sl pc : Nat} {lv : List (Option Value)} {st : List Value} {h : AHp} {M : MI} {d mc ms n index : Nat} {as : List Value} {ci a : Nat} {fs : List Value} {N : Nat} {Cn : String} {T : u_T} {ty : Nat → FieldType} (ok : MkV M n) (b : FB ci Cn T N ty) (hcn : M.1.cls = Cn) (hg : aGet h a = some (.inr (ci, fs))) (hq : Cond.methodLink J.1.1.cls index M.1 ∈ lw_all) (hd : decode J.1.2.1 pc = .ok (.invokevirtual index, 3)) (hdp : d + 1 ≤ J.2.1) (hn : as.length = n) (hcat : (st.map fun v => v.category).sum ≤ 8) (hc : ce + mc ≤ J.2.2.1) (hs : sl + ms ≤ J.2.2.2.1) (hM : AMet M d mc ms (.ref a :: as) h (fun r h' => Rch J (ce + mc) (sl + ms) (pc + 3) lv (r.toList ++ st) h')) : Rch J ce sl pc lv (as.reverse ++ .ref a :: st) h := by
  intro l G sg R p e s m args below meth c H locs ls hR C hl hH hS
  subst hcn
  obtain ⟨q0, e1, -⟩ := wso_at (G := G) (sg := sg) (show kn (.inr (ci, fs)) = true from b.2.2.2.2) hg
  refine Rch.back (st := st) (a := (Value.ref (sg a) :: as.map (rv sg)).toArray) (mc := mc) (ms := ms) hR C hl hS ?_
  exact va_runV (As := as.map (rv sg)) (rest := st.map (rv sg)) ⟨C.1, C.2.1, C.2.2.2.1, C.2.2.2.2.1, C.2.2.2.2.2.1⟩ (hM l G sg C.2.2.2.2.2.2.2.2.2.2.2) (cwV n C.2.2.2.2.2.1 (lw_V hq ok.2.1 ok.2.2 ok.1.2.1 ok.1.1) rfl rfl rfl ⟨rfl, ok.1.2.2.1⟩ (rmD_fits hR hdp ok.1.2.2.2)) ⟨Pm.blind, va_recv C.2.2.2.2.2.2.2.2.1.1 hH.1 b.1 e1, fun U hU hW => ⟨rfl, C.2.2.2.2.2.2.2.2.1.next hW C.2.2.2.2.2.2.2.2.2.1 (by rw [hU]; exact hS), by rw [hU]; exact hH.2.2.1, by rw [hU]; exact hH⟩⟩ rfl (by simpa using hn) hl.1 (by simp [rv]) (lv_room (by rw [cat_map]; exact hcat)) hd ⟨Nat.le_trans hc hR.2.2.1, Nat.le_trans hs hR.2.2.2⟩
theorem r_callI {J : Jb} {ce sl pc : Nat} {lv : List (Option Value)} {st : List Value} {h : AHp} {M : MI} {d mc ms n index : Nat} {as : List Value} {a : Nat} (ok : MkI M n) (hq : Cond.methodLink J.1.1.cls index M.1 ∈ lw_all) (hd : decode J.1.2.1 pc = .ok (.invokespecial index, 3)) (hdp : d + 1 ≤ J.2.1) (hn : as.length = n) (hcat : (st.map fun v => v.category).sum ≤ 8) (hc : ce + mc ≤ J.2.2.1) (hs : sl + ms ≤ J.2.2.2.1) (hM : AMet M d mc ms (.ref a :: as) h (fun r h' => Rch J (ce + mc) (sl + ms) (pc + 3) lv (r.toList ++ st) h')) : Rch J ce sl pc lv (as.reverse ++ .ref a :: st) h := by
  intro l G sg R p e s m args below meth c H locs ls hR C hl hH hS
  refine Rch.back (st := st) (a := (Value.ref (sg a) :: as.map (rv sg)).toArray) (mc := mc) (ms := ms) hR C hl hS ?_
  have hM2 := hM l G sg C.2.2.2.2.2.2.2.2.2.2.2
  have hco := ok.1.1
  rw [ok.2.2.2] at hM2 hco
  exact va_runI (As := as.map (rv sg)) (rest := st.map (rv sg)) ⟨C.1, C.2.1, C.2.2.2.1, C.2.2.2.2.1, C.2.2.2.2.2.1⟩ hM2 (cwI n C.2.2.2.2.2.1 (lw_meth hco) rfl rfl rfl (C.2.2.2.2.2.1 _ ok.1.2.1) (C.2.2.2.2.2.1 _ hq) (C.2.2.2.2.2.1 _ ok.2.1) ok.2.2.1 ok.1.2.2.1 (rmD_fits hR hdp ok.1.2.2.2)) ⟨Pm.blind, fun U hU hW => ⟨rfl, C.2.2.2.2.2.2.2.2.1.next hW C.2.2.2.2.2.2.2.2.2.1 (by rw [hU]; exact hS), by rw [hU]; exact hH.2.2.1, by rw [hU]; exact hH⟩⟩ rfl (by simpa using hn) hl.1 (by simp [rv]) (lv_room (by rw [cat_map]; exact hcat)) hd ⟨Nat.le_trans hc hR.2.2.1, Nat.le_trans hs hR.2.2.2⟩
theorem r_callIN {J : Jb} {ce sl pc : Nat} {lv : List (Option Value)} {st : List Value} {h : AHp} {M : MI} {d mc ms n index : Nat} {as : List Value} {a : Nat} {host : String} (ok : MkI M n) (hq : (J.1.1.cls, index, M.1, host) ∈ nwM) (hd : decode J.1.2.1 pc = .ok (.invokespecial index, 3)) (hdp : d + 1 ≤ J.2.1) (hn : as.length = n) (hcat : (st.map fun v => v.category).sum ≤ 8) (hc : ce + mc ≤ J.2.2.1) (hs : sl + ms ≤ J.2.2.2.1) (hM : AMet M d mc ms (.ref a :: as) h (fun r h' => Rch J (ce + mc) (sl + ms) (pc + 3) lv (r.toList ++ st) h')) : Rch J ce sl pc lv (as.reverse ++ .ref a :: st) h := by
  intro l G sg R p e s m args below meth c H locs ls hR C hl hH hS
  refine Rch.back (st := st) (a := (Value.ref (sg a) :: as.map (rv sg)).toArray) (mc := mc) (ms := ms) hR C hl hS ?_
  have hM2 := hM l G sg C.2.2.2.2.2.2.2.2.2.2.2
  have hco := ok.1.1
  rw [ok.2.2.2] at hM2 hco
  exact va_runIN (host := host) (As := as.map (rv sg)) (rest := st.map (rv sg)) ⟨C.1, C.2.1, C.2.2.2.1, C.2.2.2.2.1, C.2.2.2.2.2.1⟩ hM2 ⟨va_cnB n C.2.2.2.2.2.1 (lw_meth hco) rfl rfl rfl (C.2.2.2.2.2.2.2.2.1.2.1 _ hq) (C.2.2.2.2.2.1 _ ok.1.2.1) ok.1.2.2.1 (rmD_fits hR hdp ok.1.2.2.2), ok.2.2.1, C.2.2.2.2.2.1 _ ok.2.1⟩ ⟨Pm.blind, fun U hU hW => ⟨rfl, C.2.2.2.2.2.2.2.2.1.next hW C.2.2.2.2.2.2.2.2.2.1 (by rw [hU]; exact hS), by rw [hU]; exact hH.2.2.1, by rw [hU]; exact hH⟩⟩ rfl (by simpa using hn) hl.1 (by simp [rv]) (lv_room (by rw [cat_map]; exact hcat)) hd ⟨Nat.le_trans hc hR.2.2.1, Nat.le_trans hs hR.2.2.2⟩
