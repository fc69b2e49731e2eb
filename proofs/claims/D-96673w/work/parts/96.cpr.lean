set_option maxRecDepth 100000
/-! rows: arraycopy that throws -/
/-- the call of arraycopy, up to the native's frame -/
theorem cp_go {J : Jb} {ce sl pc index : Nat} {lv : List (Option Value)} {st : List Value} {l : Launch} {G : GX} {sg : Nat → Nat} {R : Room} {p : Program} {e : Env} {s : State} {m : MethodId} {args : Array Value} {below : List Frame} {meth : Method} {c : Code} {H : Heap} {locs : List Loc} {ls : Array Slot} {i j n : Int32} {vs vd : Value}
    (hR : RmOk R J.2.1 J.2.2.1 J.2.2.2.1) (C : Cx J.1 G l p s m args meth c) (hl : LvH sg ls J.1.2.2.1 lv) (hq : Cond.methodLink J.1.1.cls index arraycopyName ∈ lw_all) (hd : decode J.1.2.1 pc = .ok (.invokestatic index, 3)) (hcat : (st.map fun v => v.category).sum ≤ 8) (hvs : vs.isRef = true ∨ vs = .null) (hvd : vd.isRef = true ∨ vd = .null)
    {T : State} (hT : T.heap = H) (X : Stand p l e R s m args below meth c T locs ce sl) :
    ∃ (vm' : Vm) (nf : NFrame), Stand p l e R s m args below meth c (T.setVm vm') locs ce sl ∧ nf.words = 0 ∧ nf.awaiting = false ∧ nf.locked = none ∧ ∀ cls msg, (∀ S : State, S.heap = H → S.vm = vm' → CpT (rv sg vs) (rv sg vd) i j n S cls msg) → ∀ target, Steps p.tables e below ((T.setVm vm').setFrames (.throwNew cls msg none :: .native nf :: .java (F0 m pc ls (st.map (rv sg))) :: below)) target →
      Steps p.tables e below (T.setTop (F0 m pc ls ((.int n :: .int j :: vd :: .int i :: vs :: st).map (rv sg)))) target := by
  have hts := C.2.2.2.2.2.1
  obtain ⟨r, kS, methS, hnS, hmS, hkS, N⟩ := NativeOf.of_static (hts _ q503) (hts _ q502) (ps := [.object "java/lang/Object", .int, .object "java/lang/Object", .int, .int]) (ret := none) (by decide +kernel)
  have hinitS : kS.init = .initialized := Cond.initialized_spec (args := args) (first := s) (o := none) (idx := []) (findClass_of_methodNamed hnS) hkS (hts _ q100)
  obtain ⟨vm', X', step⟩ := X.invokestatic C.1 C.2.2.2.2.1 (hts _ hq) hnS hmS N.static hkS hinitS (by decide) (g := F0 m pc ls ((.int n :: .int j :: vd :: .int i :: vs :: st).map (rv sg))) rfl (argsL := [rv sg vs, .int i, rv sg vd, .int j, .int n]) (rest := st.map (rv sg)) (by rw [N.sig]; rfl) rfl (by rw [C.2.1]; exact hd)
  obtain ⟨kS', N'⟩ := N.alike X'.warmed.alike
  have hseen : seenByNative methS #[rv sg vs, .int i, rv sg vd, .int j, .int n] = #[rv sg vs, .int i, rv sg vd, .int j, .int n] := by
    simp [seenByNative, N'.static, N'.sig, narrow]
  refine ⟨vm', { method := r, args := seenByNative methS #[rv sg vs, .int i, rv sg vd, .int j, .int n], locked := none }, X', rfl, rfl, rfl, fun cls msg hcp target hrest => step target fun acts => ?_⟩
  have hcatv : ∀ v : Value, v.isRef = true ∨ v = .null → (rv sg v).category = 1 := by
    intro v hv
    cases v <;> first | rfl | (rcases hv with z | z <;> cases z)
  have hroom : e.platform.stackFull ((((T.setVm vm').setTop (F0 m pc ls (st.map (rv sg)))).threads[((T.setVm vm').setTop (F0 m pc ls (st.map (rv sg)))).cur]?).getD { frames := [] }) ((T.setVm vm').setTop (F0 m pc ls (st.map (rv sg)))).frames (nativeFrameWords kS'.name methS.name (operandWords (#[rv sg vs, .int i, rv sg vd, .int j, .int n] : Array Value).toList)) = false := by
    have e5 : operandWords (#[rv sg vs, .int i, rv sg vd, .int j, .int n] : Array Value).toList = 5 := by
      rw [operandWords_eq]
      show (rv sg vs).category + (1 + ((rv sg vd).category + (1 + (1 + 0)))) = 5
      rw [hcatv vs hvs, hcatv vd hvd]
    rw [e5, N'.className, N'.name]
    refine X'.notFull (g := F0 m pc ls (st.map (rv sg))) (hl.1.trans C.2.2.2.1.symm) (vars := nativeFrameWords "java/lang/System" "arraycopy" 5) (Nat.le_trans (by omega) hR.1) ?_
    show 2 * 0 + _ + (5 + 2 + 11) ≤ _
    have := hR.2.1
    rw [cat_map]
    omega
  refine st_natThrow (row := arraycopyRow) (g := F0 m pc ls (st.map (rv sg))) (s := T.setVm vm') X'.here acts N'.cls N'.meth N'.boot N'.native N'.noCode N'.noLock (by rw [N'.className, N'.name, N'.desc]; exact arraycopy_row p) hroom ?_ (by rw [X'.tail]; exact hrest)
  intro E hE
  rw [hseen, arraycopyRow_sem]
  rw [hseen] at hE
  exact hcp _ (by rw [← hT]; simp [State.pushFrame, State.setFrames, State.setTop, State.modifyTopJava]) (by simp [State.pushFrame, State.setFrames, State.setTop, State.modifyTopJava]) _ _ _ _ _ (hE _)
def ix_npe : List Nat := [90, 366, 306, 328, 331, 333, 367, 368, 125, 126, 300, 305, 329, 336, 360, 337, 361, 338, 362, 301, 302, 303, 304, 363, 325, 315, 316, 471, 473, 322, 323, 485, 462, 463, 464, 465, 353, 465, 466, 467, 468, 355, 468, 469, 470, 367, 357, 98, 320, 483, 484, 314, 479, 480, 482, 9000, 9001, 334, 364, 477]
theorem vx_npe : Bundle.npeArmAtoms 8 = ix_npe.map atm ∧ ix_npe.all (fun i => i == 9000 || (i == 9001 || tmW (atm i))) = true := ⟨by decide +kernel, by decide +kernel⟩
theorem Hd.thrown1 {G : GX} {sg : Nat → Nat} {h : AHp} {H H' : Heap} (hH : Hd G sg h H) (hz : H'.size = H.size + 1) (hk : ∀ q, q < H.size → H'[q]? = H[q]?) : Hd G sg (aPush h oq) H' := by
  have e : wso G sg (aPush h oq) = wso G sg h := wso_opq rfl
  refine ⟨?_, ?_, ?_, fun i => ?_, hH.2.2.2.2⟩
  · rw [e]
    intro k q hq
    exact (hH.1 k q hq).kept (hk q.1 (hH.1 k q hq).lt)
  · rw [e]; exact hH.2.1
  · rw [hz]; exact Nat.le_trans hH.2.2.1 (Nat.le_add_right _ _)
  · have := hH.2.2.2.1 (1 + i)
    have e2 : (aPush h oq).2.2.2.length = h.2.2.2.length + 1 := by simp [aPush]
    rw [e2, hz, Nat.add_assoc, Nat.add_assoc]
    exact this
/-- arraycopy throws NullPointerException -/
theorem r_cpNpe {J : Jb} {ce sl pc index : Nat} {lv : List (Option Value)} {st : List Value} {h : AHp} {i j n : Int32} {vs vd : Value} (hq : Cond.methodLink J.1.1.cls index arraycopyName ∈ lw_all) (hd : decode J.1.2.1 pc = .ok (.invokestatic index, 3)) (hcat : (st.map fun v => v.category).sum ≤ 8) (hvs : vs.isRef = true ∨ vs = .null) (hvd : vd.isRef = true ∨ vd = .null) (hnul : vs = .null ∨ vd = .null) (hc : ce + 1 ≤ J.2.2.1) (hs : sl + 8 ≤ J.2.2.2.1) (k : RT J (ce + 1) (sl + 8) pc lv (aNew h) "java/lang/NullPointerException" (aPush h oq)) : Rch J ce sl pc lv (.int n :: .int j :: vd :: .int i :: vs :: st) h := by
  intro l G sg R p e s m args below meth c H locs ls hR C hl hH hS T hT X
  obtain ⟨vm', nf, X', n1, n2, n3, hgo⟩ := cp_go (i := i) (j := j) (n := n) hR C hl hq hd hcat hvs hvd hT X
  have ho : Old G s s.heap := C.2.2.2.2.2.2.2.2.1.2.2.2.2.2.2.2
  have hz : va_Zq "java/lang/Throwable" "UNASSIGNED_STACK" "[Ljava/lang/StackTraceElement;" (gA G) s s.heap := (zq_old (args := args) ho (List.mem_of_getElem? (i := 302) rfl) (lw_all_tbl q90) (nar ho.2.2.2 [false, false, false, false, false, false, false, false, true, false] rfl)).1
  obtain ⟨U, L, X2, w1, w2, w3, w4, w5⟩ := ovNpe (base := G.2.2.1) X' C.1 (Launch.traces_off C.2.2.2.2.2.2.2.2.2.2.2 X.admits) (atm_all ho vx_npe.1 vx_npe.2) hz hS.2.2 (g := F0 m pc ls (st.map (rv sg))) rfl (hl.1.trans C.2.2.2.1.symm) n1 (by have := hR.1; omega) (by
    have e1 : (F0 m pc ls (st.map (rv sg))).monitorRoom = 0 := rfl
    have := hR.2.1
    have e2 : ((F0 m pc ls (st.map (rv sg))).stack.map fun v => v.category).sum ≤ 8 := by show ((st.map (rv sg)).map fun v => v.category).sum ≤ 8; rw [cat_map]; exact hcat
    omega) (Nat.le_trans hc hR.2.2.1) (Nat.le_trans hs hR.2.2.2)
  have hT2 : (T.setVm vm').heap = H := hT
  rw [hT2] at w1 w2 w3 w4 w5
  have ea : sg (aNew h) = H.size := hH.2.2.2.1 0
  obtain ⟨t, a1, b1⟩ := k l G sg R p e s m args below meth c U.heap (locs ++ L) ls (st.map (rv sg)) hR C hl (hH.thrown1 w2 w3) ⟨by rw [w2]; exact Nat.le_trans hS.1 (Nat.le_add_right _ _), fun q g1 g2 => (w3 q (Nat.lt_of_lt_of_le g1 hS.1)).trans (hS.2.1 q g1 g2), fun q hq => by
    rcases List.mem_append.mp hq with g | g
    · exact hS.2.2 q g
    · show G.2.2.1 ≤ q.base
      rw [w1 q g]
      exact hH.2.2.1⟩ (by rw [ea]; exact w4) U rfl X2
  rw [ea] at a1
  refine ⟨t, hgo _ none (fun S _ _ => ?_) t (w5 t (st_natLeft X2 n2 n3 a1)), b1⟩
  rcases hnul with z | z
  · rw [z]
    exact cp_null1
  · rw [z]
    cases vs with
    | ref a => exact cp_null2
    | null => exact cp_null1
    | _ => rcases hvs with y | y <;> cases y
/-- arraycopy throws with a text -/
theorem r_cpMsg {J : Jb} {ce sl pc index : Nat} {lv : List (Option Value)} {st : List Value} {h : AHp} {i j n : Int32} {a b : Nat} {cls : String} {names : List String} {is : List Nat} (ok : VxOk cls names is) (hq : Cond.methodLink J.1.1.cls index arraycopyName ∈ lw_all) (hd : decode J.1.2.1 pc = .ok (.invokestatic index, 3)) (hcat : (st.map fun v => v.category).sum ≤ 8) (hc : ce + 3 ≤ J.2.2.1) (hs : sl + (800 + 10) ≤ J.2.2.2.1)
    (thr : ∀ (G : GX) (l : Launch) (p : Program) (s : State) (m : MethodId) (args : Array Value) (meth : Method) (c : Code) (sg : Nat → Nat) (H : Heap) (vm' : Vm), Cx J.1 G l p s m args meth c → Hd G sg h H → s.WarmedH vm' → ∃ t, TxOk t ∧ ∀ S : State, S.heap = H → S.vm = vm' → CpT (.ref (sg a)) (.ref (sg b)) i j n S cls (some t))
    (k : RT J (ce + 3) (sl + (800 + 10)) pc lv (thA h) cls (thH h)) : Rch J ce sl pc lv (.int n :: .int j :: .ref b :: .int i :: .ref a :: st) h := by
  intro l G sg R p e s m args below meth c H locs ls hR C hl hH hS T hT X
  obtain ⟨vm', nf, X', n1, n2, n3, hgo⟩ := cp_go (i := i) (j := j) (n := n) (vs := .ref a) (vd := .ref b) hR C hl hq hd hcat (Or.inl rfl) (Or.inl rfl) hT X
  have ho : Old G s s.heap := C.2.2.2.2.2.2.2.2.1.2.2.2.2.2.2.2
  have hz : va_Zq "java/lang/Throwable" "UNASSIGNED_STACK" "[Ljava/lang/StackTraceElement;" (gA G) s s.heap := (zq_old (args := args) ho (List.mem_of_getElem? (i := 302) rfl) (lw_all_tbl q90) (nar ho.2.2.2 [false, false, false, false, false, false, false, false, true, false] rfl)).1
  obtain ⟨text, ⟨t1, t2⟩, hcp⟩ := thr G l p s m args meth c sg H vm' C hH X'.warmed
  obtain ⟨h1, h2, h3, h4, h5, h6, h7⟩ := ok
  have hb : (stringBytes (stringToUtf16 text)).size ≤ 800 := Nat.le_trans (stringBytes_size_le _) (by have h1 := utf16_size_le text; omega)
  obtain ⟨U, L, X2, w1, w2, w3, w4, w5⟩ := ovMsg (base := G.2.2.1) (cls := cls) (names := names) (text := text) X' C.1 (Launch.traces_off C.2.2.2.2.2.2.2.2.2.2.2 X.admits) h3 h4 h5 h6 (atm_all ho h1 h2) hz hS.2.2 t1 (by rw [Launch.admits_arrayLengthLimit X.admits]; omega) (by rw [Launch.admits_maxHeapBytes X.admits]; show ¬ _ * 1 > _; omega) (g := F0 m pc ls (st.map (rv sg))) rfl (hl.1.trans C.2.2.2.1.symm) n1 (by have := hR.1; omega) (by
    have e1 : (F0 m pc ls (st.map (rv sg))).monitorRoom = 0 := rfl
    have := hR.2.1
    have e2 : ((F0 m pc ls (st.map (rv sg))).stack.map fun v => v.category).sum ≤ 8 := by show ((st.map (rv sg)).map fun v => v.category).sum ≤ 8; rw [cat_map]; exact hcat
    omega) (by omega) (Nat.le_trans hc hR.2.2.1) (Nat.le_trans (by omega) hR.2.2.2)
  have X3 := stand_widen X2 (Nat.le_refl _) (show sl + ((stringBytes (stringToUtf16 text)).size + 4 + 6) ≤ sl + (800 + 10) by omega)
  have hT2 : (T.setVm vm').heap = H := hT
  rw [hT2] at w1 w2 w3 w4 w5
  have ea : sg (thA h) = H.size + 2 := hH.2.2.2.1 2
  obtain ⟨t, a1, b1⟩ := k l G sg R p e s m args below meth c U.heap (locs ++ L) ls (st.map (rv sg)) hR C hl (hH.thrown w2 w3) ⟨by rw [w2]; exact Nat.le_trans hS.1 (Nat.le_add_right _ _), fun q g1 g2 => (w3 q (Nat.lt_of_lt_of_le g1 hS.1)).trans (hS.2.1 q g1 g2), fun q hq => by
    rcases List.mem_append.mp hq with g | g
    · exact hS.2.2 q g
    · show G.2.2.1 ≤ q.base
      rw [w1 q g]
      exact Nat.le_trans hH.2.2.1 (Nat.le_add_right _ _)⟩ (by rw [ea]; exact w4) U rfl X3
  rw [ea] at a1
  exact ⟨t, hgo _ _ hcp t (w5 t (st_natLeft X3 n2 n3 a1)), b1⟩
/-- an array's cell, with its class -/
theorem arr_at2 {M : MI} {G : GX} {l : Launch} {p : Program} {s : State} {m : MethodId} {args : Array Value} {meth : Method} {c : Code} {sg : Nat → Nat} {h : AHp} {H : Heap} {a N : Nat} {ty : FieldType} {x : (Nat → Int32) ⊕ (Nat → Int64) ⊕ (Nat → UInt32) ⊕ (Nat → UInt64) ⊕ (Nat → Option Nat)} {vm' : Vm} (C : Cx M G l p s m args meth c) (hH : Hd G sg h H) (hW : s.WarmedH vm') (hty : ty ∈ tyL) (hg : aGet h a = some (.inl (ty, N, x))) : ∃ (cl9 : Cell) (k9 : Class) (cm9 : ClassId), H[sg a]? = some cl9 ∧ (∀ k, cl9.vm ≠ .statics k) ∧ vm'.classes[cl9.cls]? = some k9 ∧ k9.kind = .array cm9 ty ∧ cl9.slots.size = N := by
  obtain ⟨cl9, h1, ⟨h2, k0, h3, cm0, h4⟩, h5⟩ := arr_at C hH hty hg
  obtain ⟨k', hk', he⟩ := hW.alike.2.2 _ _ h3
  exact ⟨cl9, k', cm0, h1, h2, hk', by rw [he]; exact h4, h5⟩
def tyK (k : Nat) : FieldType := match k with
  | 0 => .byte
  | 1 => .short
  | 2 => .int
  | 3 => .long
  | _ => .boolean
theorem rwC_ty (k m : Nat) (f : Nat → Int64) : ∃ x, rwC k m f = .inl (tyK k, m, x) := by
  match k with
  | 0 => exact ⟨_, rfl⟩
  | 1 => exact ⟨_, rfl⟩
  | 2 => exact ⟨_, rfl⟩
  | 3 => exact ⟨_, rfl⟩
  | k + 4 => exact ⟨_, rfl⟩
theorem tyK_in (k : Nat) : tyK k ∈ tyL := by
  match k with
  | 0 => exact List.mem_of_getElem? (i := 2) rfl
  | 1 => exact List.mem_of_getElem? (i := 3) rfl
  | 2 => exact List.mem_of_getElem? (i := 0) rfl
  | 3 => exact List.mem_of_getElem? (i := 1) rfl
  | k + 4 => exact List.mem_of_getElem? (i := 4) rfl
theorem tyK_prim (k : Nat) : refKind (tyK k) = false := by
  match k with
  | 0 => rfl
  | 1 => rfl
  | 2 => rfl
  | 3 => rfl
  | k + 4 => rfl
theorem tyK_ne {k q : Nat} (hk : k < 5) (hq : q < 5) (h : k ≠ q) : tyK k ≠ tyK q := by
  rcases k5 hk with rfl | rfl | rfl | rfl | rfl <;> rcases k5 hq with rfl | rfl | rfl | rfl | rfl <;> first | exact absurd rfl h | decide
/-- rows of two sorts -/
theorem thr_types {M : MI} {h : AHp} {i j n : Int32} {a b k q m1 m2 : Nat} {f g : Nat → Int64} (hk : k < 5) (hq : q < 5) (hne : k ≠ q) (ha : aGet h a = some (rwC k m1 f)) (hb : aGet h b = some (rwC q m2 g)) : ∀ (G : GX) (l : Launch) (p : Program) (s : State) (m : MethodId) (args : Array Value) (meth : Method) (c : Code) (sg : Nat → Nat) (H : Heap) (vm' : Vm), Cx M G l p s m args meth c → Hd G sg h H → s.WarmedH vm' → ∃ t, TxOk t ∧ ∀ S : State, S.heap = H → S.vm = vm' → CpT (.ref (sg a)) (.ref (sg b)) i j n S "java/lang/ArrayStoreException" (some t) := by
  intro G l p s m args meth c sg H vm' C hH hW
  obtain ⟨x, ex⟩ := rwC_ty k m1 f
  obtain ⟨y, ey⟩ := rwC_ty q m2 g
  rw [ex] at ha
  rw [ey] at hb
  obtain ⟨c1, k1, d1, u1, u2, u3, u4, u5⟩ := arr_at2 C hH hW (tyK_in k) ha
  obtain ⟨c2, k2, d2, v1, v2, v3, v4, v5⟩ := arr_at2 C hH hW (tyK_in q) hb
  have hty : ((refKind (tyK k) != refKind (tyK q)) || (!refKind (tyK k) && tyK k != tyK q)) = true := by
    rw [tyK_prim k, tyK_prim q]
    simp [tyK_ne hk hq hne]
  exact cp_types (i := i) (j := j) (n := n) u1 v1 u2 v2 u3 v3 u4 v4 hty
/-- rows of one sort, beyond their ends -/
theorem thr_bounds {M : MI} {h : AHp} {i j n : Int32} {a b k m1 m2 : Nat} {f g : Nat → Int64} (h1 : m1 ≤ 40) (h2 : m2 ≤ 40) (ha : aGet h a = some (rwC k m1 f)) (hb : aGet h b = some (rwC k m2 g)) (hout : i < 0 ∨ j < 0 ∨ n < 0 ∨ i.toInt + n.toInt > m1 ∨ j.toInt + n.toInt > m2) : ∀ (G : GX) (l : Launch) (p : Program) (s : State) (m : MethodId) (args : Array Value) (meth : Method) (c : Code) (sg : Nat → Nat) (H : Heap) (vm' : Vm), Cx M G l p s m args meth c → Hd G sg h H → s.WarmedH vm' → ∃ t, TxOk t ∧ ∀ S : State, S.heap = H → S.vm = vm' → CpT (.ref (sg a)) (.ref (sg b)) i j n S "java/lang/ArrayIndexOutOfBoundsException" (some t) := by
  intro G l p s m args meth c sg H vm' C hH hW
  obtain ⟨x, ex⟩ := rwC_ty k m1 f
  obtain ⟨y, ey⟩ := rwC_ty k m2 g
  rw [ex] at ha
  rw [ey] at hb
  obtain ⟨c1, k1, d1, u1, u2, u3, u4, u5⟩ := arr_at2 C hH hW (tyK_in k) ha
  obtain ⟨c2, k2, d2, v1, v2, v3, v4, v5⟩ := arr_at2 C hH hW (tyK_in k) hb
  have hty : ((refKind (tyK k) != refKind (tyK k)) || (!refKind (tyK k) && tyK k != tyK k)) = false := by simp
  exact cp_bounds (i := i) (j := j) (n := n) u1 v1 u2 v2 u3 v3 u4 v4 hty (by omega) (by omega) (by rw [u5, v5]; exact hout)
