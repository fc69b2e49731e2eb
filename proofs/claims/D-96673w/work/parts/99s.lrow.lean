set_option maxRecDepth 100000
/-! the rows of the law itself: its script is known (printed by gen/lawrows.py) -/
/-- reached, from starts of that kind -/
def RchX (P : GX → Prop) (J : Jb) (ce sl pc : Nat) (lv : List (Option Value)) (st : List Value) (h : AHp) : Prop :=
  ∀ (l : Launch) (G : GX) (sg : Nat → Nat) (R : Room) (p : Program) (e : Env) (s : State) (m : MethodId) (args : Array Value) (below : List Frame) (meth : Method) (c : Code) (H : Heap) (locs : List Loc) (ls : Array Slot),
    RmOk R J.2.1 J.2.2.1 J.2.2.2.1 → Cx J.1 G l p s m args meth c → LvH sg ls J.1.2.2.1 lv → Hd G sg h H → va_S (gA G) s.heap H locs → P G →
    W p l e R s m args below meth c H locs ce sl (MQX below G sg J.2.2.2.2 s J.2.2.1 J.2.2.2.1) (F0 m pc ls (st.map (rv sg)))
/-- what goes on behind a call that doesn't throw -/
abbrev KL (P : GX → Prop) (J : Jb) (ce sl pc : Nat) (lv : List (Option Value)) (st : List Value) : OC → AHp → Prop := fun x h' => match x with
  | .inl r => RchX P J ce sl (pc + 3) lv (r.toList ++ st) h'
  | .inr _ => False
/-- the script -/
def ScP (L : Nat) (xs : Nat → Int32) (G : GX) : Prop := G.2.2.2.2.1 = L ∧ G.2.2.2.2.2.1 = xs
theorem x_sld {J : Jb} {ce sl pc L j : Nat} {xs : Nat → Int32} {lv : List (Option Value)} {st : List Value} {h : AHp} (hd : decode J.1.2.1 pc = .ok (.iaload, 1)) (hj : j < L) (hL : L < 1000) (kk : RchX (ScP L xs) J ce sl (pc + 1) lv (.int (xs j) :: st) h) : RchX (ScP L xs) J ce sl pc lv (.int (nI j) :: .ref 4 :: st) h := by
  intro l G sg R p e s m args below meth c H locs ls hR C hl hH hS hP
  have hE := C.2.2.2.2.2.2.2.2.1.2.2.2.2.2
  have e4 : sg 4 = G.2.2.2.1 0 := hH.2.2.2.2 0
  have hX : va_X (sg 4) L xs s s.heap := by
    rw [e4, ← hP.1, ← hP.2]; exact hE.1
  have hb : sg 4 < G.2.2.1 := by rw [e4]; exact hE.2.1
  have k2 := kk l G sg R p e s m args below meth c H locs ls hR C hl hH hS hP
  refine va_sld C.1 C.2.1 hX (Nat.lt_of_lt_of_le hb C.2.2.2.2.2.2.2.2.2.1) (fun z => absurd hb (Nat.not_lt.mpr z)) hS (vp_in_nI hj (by omega)) hd ?_
  rw [nI_clamp (by omega)]
  exact k2
theorem x_slen {J : Jb} {ce sl pc L : Nat} {xs : Nat → Int32} {lv : List (Option Value)} {st : List Value} {h : AHp} (hd : decode J.1.2.1 pc = .ok (.arraylength, 1)) (kk : RchX (ScP L xs) J ce sl (pc + 1) lv (.int (nI L) :: st) h) : RchX (ScP L xs) J ce sl pc lv (.ref 4 :: st) h := by
  intro l G sg R p e s m args below meth c H locs ls hR C hl hH hS hP
  have hE := C.2.2.2.2.2.2.2.2.1.2.2.2.2.2
  have e4 : sg 4 = G.2.2.2.1 0 := hH.2.2.2.2 0
  have hX : va_X (sg 4) L xs s s.heap := by
    rw [e4, ← hP.1, ← hP.2]; exact hE.1
  have hb : sg 4 < G.2.2.1 := by rw [e4]; exact hE.2.1
  exact va_slen C.1 C.2.1 hX (Nat.lt_of_lt_of_le hb C.2.2.2.2.2.2.2.2.2.1) (fun z => absurd hb (Nat.not_lt.mpr z)) hS hd (kk l G sg R p e s m args below meth c H locs ls hR C hl hH hS hP)
theorem xBack {P : GX → Prop} {J : Jb} {ce sl pc mc ms : Nat} {lv : List (Option Value)} {st : List Value} {p : Program} {l : Launch} {e : Env} {R : Room} {s : State} {m : MethodId} {args : Array Value} {below : List Frame} {meth : Method} {c : Code} {H : Heap} {locs : List Loc} {ls : Array Slot} {G : GX} {sg : Nat → Nat} {st0 : List Value} {a : Array Value} (hR : RmOk R J.2.1 J.2.2.1 J.2.2.2.1) (C : Cx J.1 G l p s m args meth c) (hl : LvH sg ls J.1.2.2.1 lv) (hS : va_S (gA G) s.heap H locs) (hP : P G)
    (hr : va_Run p l e R s m args below meth c H locs ce sl mc ms (F0 m pc ls st0) (st.map (rv sg)) (Qm G sg (fun r h' => RchX P J (ce + mc) (sl + ms) (pc + 3) lv (r.toList ++ st) h') a) (gA G)) : W p l e R s m args below meth c H locs ce sl (MQX below G sg J.2.2.2.2 s J.2.2.1 J.2.2.2.1) (F0 m pc ls st0) := by
  intro T hT X
  obtain ⟨v, s0, t, T', L, h0, X', hL, e1, e2, ⟨r, h', hv, hp, hH, hz, hk⟩, gs⟩ := hr T hT X
  cases hv
  rw [h0] at hz hk
  obtain ⟨t2, a1, b1⟩ := hp l G sg R p e s m args below meth c T'.heap (locs ++ L) ls hR C hl (by rw [e1]; exact hH) ⟨Nat.le_trans hS.1 (by rw [e1]; exact hz), fun q h1 h2 => by rw [e1, hk q (Nat.lt_of_lt_of_le h1 hS.1) h2]; exact hS.2.1 q h1 h2, fun q hq => by
      rcases List.mem_append.mp hq with h | h
      · exact hS.2.2 q h
      · exact hL q h⟩ hP T' rfl X'
  refine ⟨t2, gs t2 ?_, b1⟩
  have e3 : (r.map (rv sg)).toList ++ st.map (rv sg) = (r.toList ++ st).map (rv sg) := by cases r <;> simp
  rw [← e3] at a1
  exact a1
theorem xXBack {P : GX → Prop} {J : Jb} {ce sl pc mc ms d : Nat} {lv : List (Option Value)} {st : List Value} {h : AHp} {M : MI} {as : List Value} {p : Program} {l : Launch} {e : Env} {R : Room} {s : State} {m mk : MethodId} {args : Array Value} {below : List Frame} {meth : Method} {c : Code} {H : Heap} {locs : List Loc} {ls : Array Slot} {G : GX} {sg : Nat → Nat} {U : State} {ig : Instr}
    (hR : RmOk R J.2.1 J.2.2.1 J.2.2.2.1) (C : Cx J.1 G l p s m args meth c) (hl : LvH sg ls J.1.2.2.1 lv) (hH : Hd G sg h H) (hS : va_S (gA G) s.heap H locs) (hPG : P G)
    (hdp : d + 1 ≤ J.2.1) (hm21 : M.2.2.1 ≤ 21) (hkx : kX M ∈ lw_all) (hini : Cond.initialized M.1.cls ∈ lw_all) (hcat : (st.map fun v => v.category).sum ≤ 8) (hc : ce + mc ≤ J.2.2.1) (hs : sl + ms ≤ J.2.2.2.1) (hd : decode J.1.2.1 pc = .ok (ig, 3))
    (hM : AMetX M d mc ms as h (KL P J (ce + mc) (sl + ms) pc lv st)) (hU : U.heap = H) (X : Stand p l e R s m args below meth c U locs ce sl) (hn : U.methodNamed? M.1 = some mk) :
    ∃ t, Steps p.tables e below (doInvoke e (U.setTop (F0 m pc ls (st.map (rv sg)))) [] mk (as.map (rv sg)).toArray).1 t ∧ MQX below G sg J.2.2.2.2 s J.2.2.1 J.2.2.2.1 t := by
  have hW0 : s.WarmedH U.vm := X.warmed
  have hws := pay_in (s := s) (args := args) C.2.2.2.2.2.1 (kX_good hkx)
  obtain ⟨methY, cY, hmY, hcY, -, hlY, -⟩ := kX_spec hn (hws _ List.mem_cons_self (as.map (rv sg)).toArray U hW0)
  obtain ⟨kY, hkY, -⟩ := className_of_methodNamed hn
  have hinitY : kY.init = .initialized := Cond.initialized_spec (args := (as.map (rv sg)).toArray) (first := U) (o := none) (idx := []) (findClass_of_methodNamed hn) hkY (hws _ (List.mem_cons_of_mem _ hini) _ U hW0)
  have hdg : decode c.code (F0 m pc ls (st.map (rv sg))).pc = .ok (ig, 3) := by rw [C.2.1]; exact hd
  have hsize : (F0 m pc ls (st.map (rv sg))).locals.size = c.maxLocals := hl.1.trans C.2.2.2.1.symm
  obtain ⟨f1, f2⟩ := rmD_fits (mc := mc) (ms := ms) hR hdp hm21
  have hA : At U (F0 m pc ls (st.map (rv sg))).method c below := X.here
  have happ : (headSpec (kX M :: lw_all) (rmD d mc ms)).appliesLoose M.1 e.platform (U.calling (F0 m pc ls (st.map (rv sg))) mk (as.map (rv sg)).toArray) = true :=
    Spec.appliesLoose_calling hA hdg hn hkY hinitY
      (X.room_calling (g := F0 m pc ls (st.map (rv sg))) (R' := rmD d mc ms) hsize hmY hcY f1 (by
        have e1 : ((F0 m pc ls (st.map (rv sg))).stack.map fun v => v.category).sum ≤ 8 := by
          show ((st.map (rv sg)).map fun v => v.category).sum ≤ 8
          rw [cat_map]; exact hcat
        have e2 : (F0 m pc ls (st.map (rv sg))).monitorRoom = 0 := rfl
        rw [hlY, e2]
        omega) (Nat.le_trans hc hR.2.2.1) (Nat.le_trans hs hR.2.2.2)) (atoms_intro fun w hw => hws w hw _ _ hW0)
  have hP : Pm G sg as h (as.map (rv sg)).toArray (U.calling (F0 m pc ls (st.map (rv sg))) mk (as.map (rv sg)).toArray) :=
    Pm.blind _ _ _ _ ⟨rfl, C.2.2.2.2.2.2.2.2.1.next hW0 C.2.2.2.2.2.2.2.2.2.1 (by rw [hU]; exact hS), by rw [hU]; exact hH.2.2.1, by rw [hU]; exact hH⟩
  obtain ⟨mid, hmid⟩ := hA.above
  have hfr : (U.setTop (F0 m pc ls (st.map (rv sg)))).frames = (.java (F0 m pc ls (st.map (rv sg))) :: mid) ++ below := by rw [State.frames_setTop' _ hA.top, hmid]; rfl
  obtain ⟨o, s₂, hsteps, -, hend, ⟨x, h', q1, q2, q3, q4⟩, L, q5, q6⟩ := Steps.callFree (hM l G sg C.2.2.2.2.2.2.2.2.2.2.2) p X.admits X.cas X.clock (acts := []) hfr happ hP trivial
  rw [State.frames_setTop' _ hA.top, X.tail] at hend
  have hS' : ∀ T' : State, T'.heap = s₂.heap → va_S (gA G) s.heap T'.heap (locs ++ L) := by
    intro T' hT'
    have hz : H.size ≤ s₂.heap.size := by rw [← hU]; exact q4.1
    refine ⟨Nat.le_trans hS.1 (by rw [hT']; exact hz), fun q h1 h2 => ?_, fun q hq => ?_⟩
    · have hk2 : s₂.heap[q]? = H[q]? := by rw [← hU]; exact q4.2 q (by show q < U.heap.size; rw [hU]; exact Nat.lt_of_lt_of_le h1 hS.1) h2
      rw [hT', hk2]; exact hS.2.1 q h1 h2
    · rcases List.mem_append.mp hq with h | h
      · exact hS.2.2 q h
      · exact q6 q h
  match x, q1, q2 with
  | .inl r, q1, q2 =>
    cases q1
    obtain ⟨T', X', -, -, e1⟩ := X.outOf (g := F0 m pc ls (st.map (rv sg))) rfl hdg (hend) q5.1 q5.2
    have eT : T'.heap = s₂.heap := by rw [e1, heap_setTop]
    obtain ⟨t2, a1, b1⟩ := q2 l G sg R p e s m args below meth c T'.heap (locs ++ L) ls hR C hl (by rw [eT]; exact q3) (hS' T' eT) hPG T' rfl X'
    refine ⟨t2, hsteps.trans ?_, b1⟩
    have e3 : (r.map (rv sg)).toList ++ st.map (rv sg) = (r.toList ++ st).map (rv sg) := by cases r <;> simp
    rw [← e3] at a1
    rw [e1]
    exact a1
  | .inr (a, Cn), q1, q2 => exact absurd q2 (fun z => z)
theorem x_iadd {P : GX → Prop} {J : Jb} {ce sl pc : Nat} {lv : List (Option Value)} {st : List Value} {h : AHp} {x y : Int32} (hd : decode J.1.2.1 pc = .ok (.iadd, 1))  (k : RchX P J ce sl (pc + 1) lv (.int (x + y) :: st) h) : RchX P J ce sl pc lv (.int y :: .int x :: st) h :=
  fun l G sg R p e s m args below meth c H locs ls hR C hl hH hS hP => lv_iadd C.1 C.2.1 hd  (k l G sg R p e s m args below meth c H locs ls hR C hl hH hS hP)
theorem x_isub {P : GX → Prop} {J : Jb} {ce sl pc : Nat} {lv : List (Option Value)} {st : List Value} {h : AHp} {x y : Int32} (hd : decode J.1.2.1 pc = .ok (.isub, 1))  (k : RchX P J ce sl (pc + 1) lv (.int (x - y) :: st) h) : RchX P J ce sl pc lv (.int y :: .int x :: st) h :=
  fun l G sg R p e s m args below meth c H locs ls hR C hl hH hS hP => lv_isub C.1 C.2.1 hd  (k l G sg R p e s m args below meth c H locs ls hR C hl hH hS hP)
theorem x_iand {P : GX → Prop} {J : Jb} {ce sl pc : Nat} {lv : List (Option Value)} {st : List Value} {h : AHp} {x y : Int32} (hd : decode J.1.2.1 pc = .ok (.iand, 1))  (k : RchX P J ce sl (pc + 1) lv (.int (x &&& y) :: st) h) : RchX P J ce sl pc lv (.int y :: .int x :: st) h :=
  fun l G sg R p e s m args below meth c H locs ls hR C hl hH hS hP => lv_iand C.1 C.2.1 hd  (k l G sg R p e s m args below meth c H locs ls hR C hl hH hS hP)
theorem x_iconst {P : GX → Prop} {J : Jb} {ce sl pc : Nat} {lv : List (Option Value)} {st : List Value} {h : AHp} {n : Int} (v : Int32) (hd : decode J.1.2.1 pc = .ok (.iconst n, 1)) (hv : Int32.ofInt n = v) (k : RchX P J ce sl (pc + 1) lv (.int v :: st) h) : RchX P J ce sl pc lv (st) h :=
  fun l G sg R p e s m args below meth c H locs ls hR C hl hH hS hP => lv_iconst C.1 C.2.1 hd hv (k l G sg R p e s m args below meth c H locs ls hR C hl hH hS hP)
theorem x_bipush {P : GX → Prop} {J : Jb} {ce sl pc : Nat} {lv : List (Option Value)} {st : List Value} {h : AHp} {n : Int} (v : Int32) (hd : decode J.1.2.1 pc = .ok (.bipush n, 2)) (hv : (Int8.ofInt n).toInt32 = v) (k : RchX P J ce sl (pc + 2) lv (.int v :: st) h) : RchX P J ce sl pc lv (st) h :=
  fun l G sg R p e s m args below meth c H locs ls hR C hl hH hS hP => lv_bipush C.1 C.2.1 hd hv (k l G sg R p e s m args below meth c H locs ls hR C hl hH hS hP)
theorem x_dup {P : GX → Prop} {J : Jb} {ce sl pc : Nat} {lv : List (Option Value)} {st : List Value} {h : AHp} {a : Value} (hd : decode J.1.2.1 pc = .ok (.dup, 1)) (ha : a.category = 1) (k : RchX P J ce sl (pc + 1) lv (a :: a :: st) h) : RchX P J ce sl pc lv (a :: st) h :=
  fun l G sg R p e s m args below meth c H locs ls hR C hl hH hS hP => lv_dup C.1 C.2.1 hd ((rv_cat sg a).trans ha) (k l G sg R p e s m args below meth c H locs ls hR C hl hH hS hP)
theorem x_iload_n {P : GX → Prop} {J : Jb} {ce sl pc : Nat} {lv : List (Option Value)} {st : List Value} {h : AHp} {n : Fin 4} {x : Int32} (hd : decode J.1.2.1 pc = .ok (.iload_n n, 1)) (hv : lv[(n : Nat)]? = some (some (.int x))) (k : RchX P J ce sl (pc + 1) lv (.int x :: st) h) : RchX P J ce sl pc lv (st) h :=
  fun l G sg R p e s m args below meth c H locs ls hR C hl hH hS hP => lv_iload_n C.1 C.2.1 hd rfl (hl.2.2 _ _ hv) (k l G sg R p e s m args below meth c H locs ls hR C hl hH hS hP)
theorem x_aload_n {P : GX → Prop} {J : Jb} {ce sl pc : Nat} {lv : List (Option Value)} {st : List Value} {h : AHp} {n : Fin 4} {x : Nat} (hd : decode J.1.2.1 pc = .ok (.aload_n n, 1)) (hv : lv[(n : Nat)]? = some (some (.ref x))) (k : RchX P J ce sl (pc + 1) lv (.ref x :: st) h) : RchX P J ce sl pc lv (st) h :=
  fun l G sg R p e s m args below meth c H locs ls hR C hl hH hS hP => lv_aload_n C.1 C.2.1 hd rfl (hl.2.2 _ _ hv) (k l G sg R p e s m args below meth c H locs ls hR C hl hH hS hP)
theorem x_icmp_eq {P : GX → Prop} {J : Jb} {ce sl pc : Nat} {lv : List (Option Value)} {st : List Value} {h : AHp} {x y : Int32} {off : Int} (tgt : Nat) (hd : decode J.1.2.1 pc = .ok (.if_icmp .eq off, 3)) (ht : (pc : Int) + off = (tgt : Int)) (kt : x = y → RchX P J ce sl tgt lv st h) (kf : ¬ x = y → RchX P J ce sl (pc + 3) lv st h) : RchX P J ce sl pc lv (.int y :: .int x :: st) h :=
  fun l G sg R p e s m args below meth c H locs ls hR C hl hH hS hP => lv_icmp_eq C.1 C.2.1 hd ht (fun c_ => kt c_ l G sg R p e s m args below meth c H locs ls hR C hl hH hS hP) (fun c_ => kf c_ l G sg R p e s m args below meth c H locs ls hR C hl hH hS hP)
theorem x_icmp_gt {P : GX → Prop} {J : Jb} {ce sl pc : Nat} {lv : List (Option Value)} {st : List Value} {h : AHp} {x y : Int32} {off : Int} (tgt : Nat) (hd : decode J.1.2.1 pc = .ok (.if_icmp .gt off, 3)) (ht : (pc : Int) + off = (tgt : Int)) (kt : y < x → RchX P J ce sl tgt lv st h) (kf : ¬ y < x → RchX P J ce sl (pc + 3) lv st h) : RchX P J ce sl pc lv (.int y :: .int x :: st) h :=
  fun l G sg R p e s m args below meth c H locs ls hR C hl hH hS hP => lv_icmp_gt C.1 C.2.1 hd ht (fun c_ => kt c_ l G sg R p e s m args below meth c H locs ls hR C hl hH hS hP) (fun c_ => kf c_ l G sg R p e s m args below meth c H locs ls hR C hl hH hS hP)
theorem x_if_eq {P : GX → Prop} {J : Jb} {ce sl pc : Nat} {lv : List (Option Value)} {st : List Value} {h : AHp} {x : Int32} {off : Int} (tgt : Nat) (hd : decode J.1.2.1 pc = .ok (.ifCond .eq off, 3)) (ht : (pc : Int) + off = (tgt : Int)) (kt : x = 0 → RchX P J ce sl tgt lv st h) (kf : ¬ x = 0 → RchX P J ce sl (pc + 3) lv st h) : RchX P J ce sl pc lv (.int x :: st) h :=
  fun l G sg R p e s m args below meth c H locs ls hR C hl hH hS hP => lv_if_eq C.1 C.2.1 hd ht (fun c_ => kt c_ l G sg R p e s m args below meth c H locs ls hR C hl hH hS hP) (fun c_ => kf c_ l G sg R p e s m args below meth c H locs ls hR C hl hH hS hP)
theorem x_if_ne {P : GX → Prop} {J : Jb} {ce sl pc : Nat} {lv : List (Option Value)} {st : List Value} {h : AHp} {x : Int32} {off : Int} (tgt : Nat) (hd : decode J.1.2.1 pc = .ok (.ifCond .ne off, 3)) (ht : (pc : Int) + off = (tgt : Int)) (kt : ¬ x = 0 → RchX P J ce sl tgt lv st h) (kf : x = 0 → RchX P J ce sl (pc + 3) lv st h) : RchX P J ce sl pc lv (.int x :: st) h :=
  fun l G sg R p e s m args below meth c H locs ls hR C hl hH hS hP => lv_if_ne C.1 C.2.1 hd ht (fun c_ => kt c_ l G sg R p e s m args below meth c H locs ls hR C hl hH hS hP) (fun c_ => kf c_ l G sg R p e s m args below meth c H locs ls hR C hl hH hS hP)
theorem x_goto {P : GX → Prop} {J : Jb} {ce sl pc : Nat} {lv : List (Option Value)} {st : List Value} {h : AHp} {off : Int} (tgt : Nat) (hd : decode J.1.2.1 pc = .ok (.goto off, 3)) (ht : (pc : Int) + off = (tgt : Int)) (k : RchX P J ce sl tgt lv st h) : RchX P J ce sl pc lv st h :=
  fun l G sg R p e s m args below meth c H locs ls hR C hl hH hS hP => lv_goto C.1 C.2.1 hd ht (k l G sg R p e s m args below meth c H locs ls hR C hl hH hS hP)
theorem x_lcmp {P : GX → Prop} {J : Jb} {ce sl pc : Nat} {lv : List (Option Value)} {st : List Value} {h : AHp} {x y : Int64} (hd : decode J.1.2.1 pc = .ok (.lcmp, 1)) (k : RchX P J ce sl (pc + 1) lv (.int (lg_cmp x y) :: st) h) : RchX P J ce sl pc lv (.long y :: .long x :: st) h :=
  fun l G sg R p e s m args below meth c H locs ls hR C hl hH hS hP => W.lcmp C.1 C.2.1 hd (k l G sg R p e s m args below meth c H locs ls hR C hl hH hS hP)
theorem x_ldc2 {P : GX → Prop} {J : Jb} {ce sl pc : Nat} {lv : List (Option Value)} {st : List Value} {h : AHp} {i : Nat} {v : Int64} (hq : Cond.constantLong J.1.1.cls i v ∈ lw_all) (hd : decode J.1.2.1 pc = .ok (.ldc2_w i, 3)) (k : RchX P J ce sl (pc + 3) lv (.long v :: st) h) : RchX P J ce sl pc lv st h :=
  fun l G sg R p e s m args below meth c H locs ls hR C hl hH hS hP => lv_ldc2 C.1 C.2.1 C.2.2.2.2.1 (C.2.2.2.2.2.1 _ hq) hd (k l G sg R p e s m args below meth c H locs ls hR C hl hH hS hP)
theorem x_tableOut {P : GX → Prop} {J : Jb} {ce sl pc : Nat} {lv : List (Option Value)} {st : List Value} {h : AHp} {dflt lo hi : Int} {offs : Array Int} {len : Nat} {x : Int32} (tgt : Nat) (hd : decode J.1.2.1 pc = .ok (.tableswitch dflt lo hi offs, len)) (hx : x.toInt < lo ∨ hi < x.toInt) (ht : (pc : Int) + dflt = (tgt : Int)) (k : RchX P J ce sl tgt lv st h) : RchX P J ce sl pc lv (.int x :: st) h :=
  fun l G sg R p e s m args below meth c H locs ls hR C hl hH hS hP => lv_tableOut C.1 C.2.1 hd hx ht (k l G sg R p e s m args below meth c H locs ls hR C hl hH hS hP)
theorem x_tableIn {P : GX → Prop} {J : Jb} {ce sl pc : Nat} {lv : List (Option Value)} {st : List Value} {h : AHp} {dflt lo hi off : Int} {offs : Array Int} {len : Nat} {x : Int32} (tgt : Nat) (hd : decode J.1.2.1 pc = .ok (.tableswitch dflt lo hi offs, len)) (h1 : ¬ x.toInt < lo) (h2 : ¬ hi < x.toInt) (ho : offs[(x.toInt - lo).toNat]? = some off) (ht : (pc : Int) + off = (tgt : Int)) (k : RchX P J ce sl tgt lv st h) : RchX P J ce sl pc lv (.int x :: st) h :=
  fun l G sg R p e s m args below meth c H locs ls hR C hl hH hS hP => lv_tableIn C.1 C.2.1 hd h1 h2 ho ht (k l G sg R p e s m args below meth c H locs ls hR C hl hH hS hP)
theorem x_istore_n {P : GX → Prop} {J : Jb} {ce sl pc : Nat} {lv : List (Option Value)} {st : List Value} {h : AHp} {n : Fin 4} {x : Int32} (hd : decode J.1.2.1 pc = .ok (.istore_n n, 1)) (hn : (n : Nat) < J.1.2.2.1) (k : RchX P J ce sl (pc + 1) (lvS1 lv n (.int x)) st h) : RchX P J ce sl pc lv (.int x :: st) h :=
  fun l G sg R p e s m args below meth c H locs ls hR C hl hH hS hP => lv_istore_n C.1 C.2.1 hd rfl hl.has hn rfl (fun ls2 hl2 => k l G sg R p e s m args below meth c H locs ls2 hR C (LvH.store1 hl2) hH hS hP)
theorem x_astore_n {P : GX → Prop} {J : Jb} {ce sl pc : Nat} {lv : List (Option Value)} {st : List Value} {h : AHp} {n : Fin 4} {x : Nat} (hd : decode J.1.2.1 pc = .ok (.astore_n n, 1)) (hn : (n : Nat) < J.1.2.2.1) (k : RchX P J ce sl (pc + 1) (lvS1 lv n (.ref x)) st h) : RchX P J ce sl pc lv (.ref x :: st) h :=
  fun l G sg R p e s m args below meth c H locs ls hR C hl hH hS hP => lv_astore_n C.1 C.2.1 hd rfl hl.has hn rfl (fun ls2 hl2 => k l G sg R p e s m args below meth c H locs ls2 hR C (LvH.store1 hl2) hH hS hP)
theorem x_iinc {P : GX → Prop} {J : Jb} {ce sl pc : Nat} {lv : List (Option Value)} {st : List Value} {h : AHp} {i : Nat} {n : Int} {x : Int32} (hd : decode J.1.2.1 pc = .ok (.iinc i n, 3)) (hv : lv[i]? = some (some (.int x))) (hn : i < J.1.2.2.1) (k : RchX P J ce sl (pc + 3) (lvS1 lv i (.int (x + Int32.ofInt n))) st h) : RchX P J ce sl pc lv st h := by
  intro l G sg R p e s m args below meth c H locs ls hR C hl hH hS hP
  obtain ⟨q, hq⟩ := List.getElem?_of_mem (lvl_mem (sg := sg) hv)
  exact lv_iinc C.1 C.2.1 hd hl.has hq rfl hn rfl (fun ls2 hl2 => k l G sg R p e s m args below meth c H locs ls2 hR C (LvH.store1 (v := .int (x + Int32.ofInt n)) hl2) hH hS hP)
theorem x_i2l {P : GX → Prop} {J : Jb} {ce sl pc : Nat} {lv : List (Option Value)} {st : List Value} {h : AHp} {x : Int32} (hd : decode J.1.2.1 pc = .ok (.i2l, 1))  (k : RchX P J ce sl (pc + 1) lv (.long x.toInt64 :: st) h) : RchX P J ce sl pc lv (.int x :: st) h :=
  fun l G sg R p e s m args below meth c H locs ls hR C hl hH hS hP => lv_i2l C.1 C.2.1 hd rfl (k l G sg R p e s m args below meth c H locs ls hR C hl hH hS hP)
theorem x_lshl {P : GX → Prop} {J : Jb} {ce sl pc : Nat} {lv : List (Option Value)} {st : List Value} {h : AHp} {x : Int64} {y : Int32} (hd : decode J.1.2.1 pc = .ok (.lshl, 1))  (k : RchX P J ce sl (pc + 1) lv (.long (x <<< (y.toInt64 &&& 63)) :: st) h) : RchX P J ce sl pc lv (.int y :: .long x :: st) h :=
  fun l G sg R p e s m args below meth c H locs ls hR C hl hH hS hP => lv_lshl C.1 C.2.1 hd rfl (k l G sg R p e s m args below meth c H locs ls hR C hl hH hS hP)
theorem x_land {P : GX → Prop} {J : Jb} {ce sl pc : Nat} {lv : List (Option Value)} {st : List Value} {h : AHp} {x y : Int64} (hd : decode J.1.2.1 pc = .ok (.land, 1))  (k : RchX P J ce sl (pc + 1) lv (.long (x &&& y) :: st) h) : RchX P J ce sl pc lv (.long y :: .long x :: st) h :=
  fun l G sg R p e s m args below meth c H locs ls hR C hl hH hS hP => lv_land C.1 C.2.1 hd  (k l G sg R p e s m args below meth c H locs ls hR C hl hH hS hP)
theorem x_lor {P : GX → Prop} {J : Jb} {ce sl pc : Nat} {lv : List (Option Value)} {st : List Value} {h : AHp} {x y : Int64} (hd : decode J.1.2.1 pc = .ok (.lor, 1))  (k : RchX P J ce sl (pc + 1) lv (.long (x ||| y) :: st) h) : RchX P J ce sl pc lv (.long y :: .long x :: st) h :=
  fun l G sg R p e s m args below meth c H locs ls hR C hl hH hS hP => lv_lor C.1 C.2.1 hd  (k l G sg R p e s m args below meth c H locs ls hR C hl hH hS hP)
theorem x_zret {P : GX → Prop} {J : Jb} {ce sl pc : Nat} {lv : List (Option Value)} {h : AHp} {v : Int32} {ty : FieldType} (hd : decode J.1.2.1 pc = .ok (.ireturn, 1)) (hr : J.1.2.2.2.1 = some ty) (hn : narrow ty (.int v) = .int v) (hc : ce ≤ J.2.2.1) (hs : sl ≤ J.2.2.2.1) (hQ : J.2.2.2.2 (.inl (some (.int v))) h) : RchX P J ce sl pc lv [.int v] h := by
  intro l G sg R p e s m args below meth c H locs ls hR C hl hH hS hP
  refine W.widen hc hs (W.mono (MQX.ofMQ (args := args) (H := H) hQ) ?_)
  have hlk : meth.locks = false := C.2.2.2.2.2.2.1
  exact W.zret (v := v) C.1 C.2.1 (C.2.2.1.trans hr) hn (fun t ht _ => ⟨rfl, by rw [ht]; exact hH, hS.F ht⟩) hS.2.2 hd
theorem x_callV {P : GX → Prop} {J : Jb} {ce sl pc : Nat} {lv : List (Option Value)} {st : List Value} {h : AHp} {M : MI} {d mc ms n index : Nat} {as : List Value} {ci a : Nat} {fs : List Value} {N : Nat} {Cn : String} {T : u_T} {ty : Nat → FieldType} (ok : MkV M n) (b : FB ci Cn T N ty) (hcn : M.1.cls = Cn) (hg : aGet h a = some (.inr (ci, fs))) (hq : Cond.methodLink J.1.1.cls index M.1 ∈ lw_all) (hd : decode J.1.2.1 pc = .ok (.invokevirtual index, 3)) (hdp : d + 1 ≤ J.2.1) (hn : as.length = n) (hcat : (st.map fun v => v.category).sum ≤ 8) (hc : ce + mc ≤ J.2.2.1) (hs : sl + ms ≤ J.2.2.2.1) (hM : AMet M d mc ms (.ref a :: as) h (fun r h' => RchX P J (ce + mc) (sl + ms) (pc + 3) lv (r.toList ++ st) h')) : RchX P J ce sl pc lv (as.reverse ++ .ref a :: st) h := by
  intro l G sg R p e s m args below meth c H locs ls hR C hl hH hS hP
  subst hcn
  obtain ⟨q0, e1, -⟩ := wso_at (G := G) (sg := sg) (show kn (.inr (ci, fs)) = true from b.2.2.2.2) hg
  refine xBack (st := st) (a := (Value.ref (sg a) :: as.map (rv sg)).toArray) (mc := mc) (ms := ms) hR C hl hS hP ?_
  exact va_runV (As := as.map (rv sg)) (rest := st.map (rv sg)) ⟨C.1, C.2.1, C.2.2.2.1, C.2.2.2.2.1, C.2.2.2.2.2.1⟩ (hM l G sg C.2.2.2.2.2.2.2.2.2.2.2) (cwV n C.2.2.2.2.2.1 (lw_V hq ok.2.1 ok.2.2 ok.1.2.1 ok.1.1) rfl rfl rfl ⟨rfl, ok.1.2.2.1⟩ (rmD_fits hR hdp ok.1.2.2.2)) ⟨Pm.blind, va_recv C.2.2.2.2.2.2.2.2.1.1 hH.1 b.1 e1, fun U hU hW => ⟨rfl, C.2.2.2.2.2.2.2.2.1.next hW C.2.2.2.2.2.2.2.2.2.1 (by rw [hU]; exact hS), by rw [hU]; exact hH.2.2.1, by rw [hU]; exact hH⟩⟩ rfl (by simpa using hn) hl.1 (by simp [rv]) (lv_room (by rw [cat_map]; exact hcat)) hd ⟨Nat.le_trans hc hR.2.2.1, Nat.le_trans hs hR.2.2.2⟩
theorem x_callI {P : GX → Prop} {J : Jb} {ce sl pc : Nat} {lv : List (Option Value)} {st : List Value} {h : AHp} {M : MI} {d mc ms n index : Nat} {as : List Value} {a : Nat} (ok : MkI M n) (hq : Cond.methodLink J.1.1.cls index M.1 ∈ lw_all) (hd : decode J.1.2.1 pc = .ok (.invokespecial index, 3)) (hdp : d + 1 ≤ J.2.1) (hn : as.length = n) (hcat : (st.map fun v => v.category).sum ≤ 8) (hc : ce + mc ≤ J.2.2.1) (hs : sl + ms ≤ J.2.2.2.1) (hM : AMet M d mc ms (.ref a :: as) h (fun r h' => RchX P J (ce + mc) (sl + ms) (pc + 3) lv (r.toList ++ st) h')) : RchX P J ce sl pc lv (as.reverse ++ .ref a :: st) h := by
  intro l G sg R p e s m args below meth c H locs ls hR C hl hH hS hP
  refine xBack (st := st) (a := (Value.ref (sg a) :: as.map (rv sg)).toArray) (mc := mc) (ms := ms) hR C hl hS hP ?_
  have hM2 := hM l G sg C.2.2.2.2.2.2.2.2.2.2.2
  have hco := ok.1.1
  rw [ok.2.2.2] at hM2 hco
  exact va_runI (As := as.map (rv sg)) (rest := st.map (rv sg)) ⟨C.1, C.2.1, C.2.2.2.1, C.2.2.2.2.1, C.2.2.2.2.2.1⟩ hM2 (cwI n C.2.2.2.2.2.1 (lw_meth hco) rfl rfl rfl (C.2.2.2.2.2.1 _ ok.1.2.1) (C.2.2.2.2.2.1 _ hq) (C.2.2.2.2.2.1 _ ok.2.1) ok.2.2.1 ok.1.2.2.1 (rmD_fits hR hdp ok.1.2.2.2)) ⟨Pm.blind, fun U hU hW => ⟨rfl, C.2.2.2.2.2.2.2.2.1.next hW C.2.2.2.2.2.2.2.2.2.1 (by rw [hU]; exact hS), by rw [hU]; exact hH.2.2.1, by rw [hU]; exact hH⟩⟩ rfl (by simpa using hn) hl.1 (by simp [rv]) (lv_room (by rw [cat_map]; exact hcat)) hd ⟨Nat.le_trans hc hR.2.2.1, Nat.le_trans hs hR.2.2.2⟩
theorem x_xV {P : GX → Prop} {J : Jb} {ce sl pc : Nat} {lv : List (Option Value)} {st : List Value} {h : AHp} {M : MI} {d mc ms n index : Nat} {as : List Value} {ci a : Nat} {fs : List Value} {N : Nat} {Cn : String} {T : u_T} {ty : Nat → FieldType} (ok : MxV M n) (b : FB ci Cn T N ty) (hcn : M.1.cls = Cn) (hg : aGet h a = some (.inr (ci, fs))) (hq : Cond.methodLink J.1.1.cls index M.1 ∈ lw_all) (hd : decode J.1.2.1 pc = .ok (.invokevirtual index, 3)) (hdp : d + 1 ≤ J.2.1) (hn : as.length = n) (hcat : (st.map fun v => v.category).sum ≤ 8) (hc : ce + mc ≤ J.2.2.1) (hs : sl + ms ≤ J.2.2.2.1) (hM : AMetX M d mc ms (.ref a :: as) h (KL P J (ce + mc) (sl + ms) pc lv st)) : RchX P J ce sl pc lv (as.reverse ++ .ref a :: st) h := by
  intro l G sg R p e s m args below meth c H locs ls hR C hl hH hS hP T hT X
  subst hcn
  have hts := C.2.2.2.2.2.1
  obtain ⟨q0, e1, -⟩ := wso_at (G := G) (sg := sg) (show kn (.inr (ci, fs)) = true from b.2.2.2.2) hg
  obtain ⟨cellB, hcB, hoB, hclB⟩ := va_recv C.2.2.2.2.2.2.2.2.1.1 hH.1 b.1 e1
  obtain ⟨mk, methM, hnamed, hmethM, hstM, habM⟩ := Cond.instanceMethod_spec (hts _ ok.2.1)
  obtain ⟨meth', c', h1, -, -, -, -, -, -, h8⟩ := kX_spec hnamed (hts _ ok.1.1)
  cases hmethM.symm.trans h1
  obtain ⟨c2, r2, m2, q1, q2, q3, q4, kP, hkP, hkPi⟩ := Cond.selects_spec (hts _ ok.2.2)
  have hy : M.1.cls ≠ "java/lang/invoke/MethodHandle" ∧ M.1.cls ≠ "java/lang/invoke/VarHandle" := ⟨ok.1.2.2.1.1, ok.1.2.2.1.2.1⟩
  cases hclB.symm.trans q1
  cases (State.methodFound?_of_named hnamed hy).symm.trans q2
  cases hnamed.symm.trans q3
  have hselP : selectMethod e.platform s.vm cellB.cls mk = .method mk := by rw [Launch.admits_selectMethod X.admits]; exact q4
  have hlen : (as.map (rv sg)).length = methM.sig.parameters.length := by
    have h2 := ok.1.2.2.1.2.2
    rw [h8] at h2
    rw [List.length_map, hn]
    exact (Option.some.inj h2).symm
  obtain ⟨vm₁, X₁, hstep₁⟩ := X.invokevirtual C.1 C.2.2.2.2.1 (hts _ hq) hnamed hmethM hstM hkP hkPi hy (a := sg a) (cell := cellB) (by rw [hT]; exact hcB)
    (fun z h => by rw [h] at hoB; cases hoB) hselP hmethM habM hkP hkPi (g := F0 m pc ls ((as.reverse ++ .ref a :: st).map (rv sg))) rfl (argsL := as.map (rv sg)) (rest := st.map (rv sg)) hlen (by simp [rv]) (by rw [C.2.1]; exact hd)
  obtain ⟨t, a1, b1⟩ := xXBack (as := .ref a :: as) hR C hl hH hS hP hdp ok.1.2.2.2 ok.1.1 ok.1.2.1 hcat hc hs hd hM (U := T.setVm vm₁) hT X₁ (X₁.named hnamed)
  exact ⟨t, hstep₁ _ fun acts => by rw [doInvoke_state]; exact a1, b1⟩
theorem x_new {P : GX → Prop} {J : Jb} {ce sl pc : Nat} {lv : List (Option Value)} {st : List Value} {h : AHp} {ci N index : Nat} {Cn : String} {T : u_T} {ty : Nat → FieldType} (b : FB ci Cn T N ty) (fs : List Value) (hfs : ∀ j, j < N → defaultValue (ty j) = vp_V fs j) (hnr : ∀ sg, fs.map (rv sg) = fs) (hq : Cond.classLink J.1.1.cls index Cn ∈ lw_all) (hin : Cond.instantiable Cn N ∈ lw_all) (hini : Cond.initialized Cn ∈ lw_all) (hd : decode J.1.2.1 pc = .ok (.new index, 3)) (hc : ce + 1 ≤ J.2.2.1) (hs : sl + N ≤ J.2.2.2.1) (kk : RchX P J (ce + 1) (sl + N) (pc + 3) lv (.ref (aNew h) :: st) (aPush h (.inr (ci, fs)))) : RchX P J ce sl pc lv st h := by
  intro l G sg R p e s m args below meth c H locs ls hR C hl hH hS hP
  have hts := C.2.2.2.2.2.1
  have hKn := C.2.2.2.2.2.2.2.2.1.1.1 ci _ b.1
  refine W.newcK C.1 C.2.1 C.2.2.2.2.1 (hts _ hq) (hts _ hin) (hts _ hini) rfl hd (Nat.le_trans hc hR.2.2.1) (Nat.le_trans hs hR.2.2.2) hKn.2.1 rfl fun H1 kC hkC e1 z1 o1 => ?_
  obtain ⟨hH1, hn⟩ := hH.push (c := .inr (ci, fs)) b.2.2.2.2 ⟨_, b.1, (u_born ty hts b.2.1 hKn hkC e1 b.2.2.1).to (fun j hj => by rw [hnr]; exact hfs j hj)⟩ z1 o1
  have k2 := kk l G sg R p e s m args below meth c H1 locs ls hR C hl hH1 (vaS_new hS z1 o1) hP
  rw [← hn]
  exact k2
theorem x_iincV {P : GX → Prop} {J : Jb} {ce sl pc : Nat} {lv : List (Option Value)} {st : List Value} {h : AHp} {i : Nat} {n : Int} {x v : Int32} (hd : decode J.1.2.1 pc = .ok (.iinc i n, 3)) (hv : lv[i]? = some (some (.int x))) (hn : i < J.1.2.2.1) (hx : x + Int32.ofInt n = v) (k : RchX P J ce sl (pc + 3) (lvS1 lv i (.int v)) st h) : RchX P J ce sl pc lv st h := by
  subst hx
  exact x_iinc hd hv hn k
theorem x_newD {P : GX → Prop} {J : Jb} {ce sl pc : Nat} {lv : List (Option Value)} {st : List Value} {r0 x1 h2 D cs : List AC} {k : Nat} (hk : D.length = k) (i : Nat) (hi : cs.length = i) {ci N index : Nat} {Cn : String} {T : u_T} {ty : Nat → FieldType} (b : FB ci Cn T N ty) (fs : List Value) (hfs : ∀ j, j < N → defaultValue (ty j) = vp_V fs j) (hnr : ∀ sg, fs.map (rv sg) = fs) (hq : Cond.classLink J.1.1.cls index Cn ∈ lw_all) (hin : Cond.instantiable Cn N ∈ lw_all) (hini : Cond.initialized Cn ∈ lw_all) (hd : decode J.1.2.1 pc = .ok (.new index, 3)) (hc : ce + 1 ≤ J.2.2.1) (hs : sl + N ≤ J.2.2.2.1) (kk : RchX P J (ce + 1) (sl + N) (pc + 3) lv (.ref (8 * (k + i) + 3) :: st) (r0, x1, h2, D ++ (cs ++ [.inr (ci, fs)]))) : RchX P J ce sl pc lv st (r0, x1, h2, D ++ cs) :=
  x_new b fs hfs hnr hq hin hini hd hc hs (by rw [dynN hk hi, dynP]; exact kk)
