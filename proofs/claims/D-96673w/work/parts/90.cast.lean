set_option maxRecDepth 100000
/-! a cast that fails -/
theorem fc_spec {vm : Vm} {n : String} {c : ClassId} (h : vm.findClass n = some c) : ∃ k, vm.classes[c]? = some k ∧ k.name = n ∧ k.hidden = none ∧ k.loader = none := by
  obtain ⟨hlt, hp, -⟩ := Array.findIdx?_eq_some_iff_getElem.mp h
  refine ⟨_, Array.getElem?_eq_getElem hlt, ?_⟩
  simp only [Bool.and_eq_true, beq_iff_eq, Option.isNone_iff_eq_none] at hp
  exact ⟨hp.1.1.1, hp.1.1.2, hp.2⟩
theorem turned_len (a b : Char) (s : String) : (turned a b s).toList.length = s.toList.length := by
  unfold turned
  rw [String.toList_ofList, List.length_map]
theorem shown_len {k : Class} (h : k.hidden = none) : k.shown.toList.length = k.name.toList.length := by
  unfold Class.shown
  rw [h]
  exact turned_len _ _ _
def mdR (vm : Vm) : Prop := (vm.modules.all fun m => m.loader.isSome || m.name == "java.base" || !(castPackages_1.any fun p => m.packages.contains p)) = true
theorem home_len {vm : Vm} {k : Class} (hm : mdR vm) (hl : k.loader = none) (hp : packageOf k.name = "") : (vm.home k).toList.length ≤ 60 := by
  have key : ∀ m, vm.moduleOf k = some m → m.name = "java.base" := by
    intro m hk
    unfold Vm.moduleOf at hk
    split at hk
    · have := List.find?_some hk
      simpa using this
    · have h1 := List.find?_some hk
      have h2 := List.mem_of_find?_eq_some hk
      have h3 := List.all_eq_true.mp hm m h2
      simp only [Bool.and_eq_true, beq_iff_eq] at h1
      rw [hl] at h1
      rw [hp] at h1
      have h4 : (castPackages_1.any fun p => m.packages.contains p) = true := List.any_eq_true.mpr ⟨"", by decide, h1.2⟩
      rw [h4, h1.1] at h3
      simpa using h3
  have e0 : (vm.loaderName k.loader).toList.length = 11 := by rw [hl]; show ("'bootstrap'").toList.length = 11; decide +kernel
  unfold Vm.home
  rw [String.toList_append, String.toList_append, List.length_append, List.length_append, e0]
  have e1 : (" of loader ").toList.length = 11 := by decide +kernel
  rw [e1]
  cases hk : vm.moduleOf k with
  | none =>
    have e2 : ("unnamed module").toList.length = 14 := by decide +kernel
    show ("unnamed module").toList.length + 11 + 11 ≤ 60
    rw [e2]
    decide
  | some m =>
    show ("module " ++ m.name).toList.length + 11 + 11 ≤ 60
    rw [key m hk]
    decide +kernel
theorem homes_len {vm : Vm} {a b : Class} {na nb : Nat} (hm : mdR vm) (ha : a.loader = none) (hb : b.loader = none) (pa : packageOf a.name = "") (pb : packageOf b.name = "") (sa : a.shown.toList.length ≤ na) (sb : b.shown.toList.length ≤ nb) : (vm.homes a b).toList.length ≤ na + nb + 140 := by
  have h1 := home_len hm ha pa
  have h2 := home_len hm hb pb
  have e1 : (" and ").toList.length = 5 := by decide +kernel
  have e2 : (" are in ").toList.length = 8 := by decide +kernel
  have e3 : (" is in ").toList.length = 7 := by decide +kernel
  have e4 : ("; ").toList.length = 2 := by decide +kernel
  have e5 : ("").toList.length = 0 := by decide +kernel
  unfold Vm.homes
  split
  · simp only [String.toList_append, List.length_append, toString, id]
    omega
  · simp only [String.toList_append, List.length_append, toString, id]
    omega
theorem msg_len {vm : Vm} {a b : Class} {na nb : Nat} (hm : mdR vm) (ha : a.loader = none) (hb : b.loader = none) (pa : packageOf a.name = "") (pb : packageOf b.name = "") (sa : a.shown.toList.length ≤ na) (sb : b.shown.toList.length ≤ nb) : (checkcast.message vm a b).toList.length ≤ 2 * (na + nb) + 200 ∧ (checkcast.message vm a b == notModelled) = false := by
  have h1 := homes_len hm ha hb pa pb sa sb
  have e1 : ("class ").toList.length = 6 := by decide +kernel
  have e2 : (" cannot be cast to class ").toList.length = 25 := by decide +kernel
  have e3 : (" (").toList.length = 2 := by decide +kernel
  have e4 : (")").toList.length = 1 := by decide +kernel
  constructor
  · unfold checkcast.message
    simp only [String.toList_append, List.length_append, toString, id]
    omega
  · rw [beq_eq_false_iff_ne]
    intro h
    have h2 := congrArg String.toList h
    unfold checkcast.message at h2
    simp only [String.toList_append, toString, id] at h2
    have h4 : notModelled.toList = '\u0000' :: " a message that is not modelled".toList := by decide
    have h5 : ("class ").toList = 'c' :: ("lass ").toList := by decide
    rw [h4, h5] at h2
    simp at h2
theorem st_castNo {p : Program} {l : Launch} {e : Env} {R : Room} {s : State} {m : MethodId} {args : Array Value} {below : List Frame} {meth : Method} {c : Code} {T : State} {locs : List Loc} {cells slots : Nat} (X : Stand p l e R s m args below meth c T locs cells slots) (hexec : p.tables.exec = Jvm.exec)
    {own name : String} {index : Nat} (hown : s.vm.findClass own = some m.cls) (hlink : (Cond.classLink own index name).before args s = true)
    {a : Addr} {cell : Cell} {cT : ClassId} {ks : Class} (hcell : T.heap[a]? = some cell) (hobj : cell.vm.isStatics = false) (hks : s.vm.classes[cell.cls]? = some ks)
    (hcT : s.vm.findClass name = some cT) (hasg : s.vm.assignable cell.cls cT = false)
    {g : JFrame} (hg : g.method = m) {rest : List Value} (hstack : g.stack = .ref a :: rest) (hdg : decode c.code g.pc = .ok (.checkcast index, 3)) :
    ∃ vm' ks' kt', Stand p l e R s m args below meth c (T.setVm vm') locs cells slots ∧ s.WarmedH vm' ∧ vm'.classes[cell.cls]? = some ks' ∧ vm'.classes[cT]? = some kt' ∧
      ∀ target, Steps p.tables e below (((T.setVm vm').setTop g).pushFrame (.throwNew "java/lang/ClassCastException" (some (checkcast.message vm' ks' kt')) none)) target → Steps p.tables e below (T.setTop g) target := by
  have hpl : e.platform.magicAccessors = ({} : Platform).magicAccessors := by rw [X.admits.platform]
  obtain ⟨c', hc', hcl⟩ := Cond.classLink_spec hown hlink e.platform hpl
  cases hcT.symm.trans hc'
  obtain ⟨dk, _, _, kt, hd, _, _, _, _, hkt, _, hopen⟩ := hcl.here
  have hcl₀ := X.warmed.classLinks hcl
  have hW' : s.WarmedH (T.vm.noted m.cls index (.cls cT)) := X.warmed.noted hd hopen (State.rightAt_cls hcl)
  obtain ⟨ks', hks', -⟩ := hW'.alike.2.2 _ _ hks
  obtain ⟨kt', hkt', -⟩ := hW'.alike.2.2 _ _ hkt
  refine ⟨_, ks', kt', X.noted hW', hW', hks', hkt', fun target hrest => ?_⟩
  subst hg
  jvm_step X.here [hexec, hdg, checkcast.wp_cold (e := e) (s := T) (f := g) X.here.top hstack (resolveClass_links e.toSetting hcl₀) hcl₀.ready,
    checkcast.wp_ready (e := e) (s := T.setVm (T.vm.noted g.method.cls index (.cls cT))) (f := g) X.here.top hcl₀.ready hstack]
  refine ⟨cell, hcell, VmData.noStatics_of hobj, ks', hks', kt', hkt', ?_⟩
  rw [if_neg (by rw [hW'.alike.assignable, hasg]; decide)]
  exact hrest
/-- a name that the text of a failing cast may hold -/
def CnOk (n : String) : Prop := packageOf n = "" ∧ n.toList.length ≤ 40
theorem r_castNo {J : Jb} {ce sl pc : Nat} {lv : List (Option Value)} {st : List Value} {h : AHp} {a index : Nat} {Cn nm : String} (ha : IsA h a Cn) (hc : NC Cn nm) (o1 : CnOk Cn) (o2 : CnOk nm) (hq : Cond.classLink J.1.1.cls index nm ∈ lw_all) (hd : decode J.1.2.1 pc = .ok (.checkcast index, 3)) (hcat : (st.map fun v => v.category).sum ≤ 99) (hce : ce + 3 ≤ J.2.2.1) (hsl : sl + (1440 + 10) ≤ J.2.2.2.1) (k : RT J (ce + 3) (sl + (1440 + 10)) pc lv (thA h) "java/lang/ClassCastException" (thH h)) : Rch J ce sl pc lv (.ref a :: st) h := by
  intro l G sg R p e s m args below meth c H locs ls hR C hl hH hS T hT X
  obtain ⟨cell, w1, w2, w3⟩ := ha _ _ _ _ _ _ _ _ _ _ _ C hH
  obtain ⟨c0, cT, f1, f2, f3⟩ := hc.at C
  cases w3.symm.trans f1
  obtain ⟨ks, hks, -⟩ := fc_spec w3
  obtain ⟨vm', ks', kt', X', hW', hk1, hk2, hst⟩ := st_castNo X C.1 C.2.2.2.2.1 (C.2.2.2.2.2.1 _ hq) (by rw [hT]; exact w1) w2 hks f2 f3 (g := F0 m pc ls ((.ref a :: st).map (rv sg))) rfl (rest := st.map (rv sg)) rfl (by rw [C.2.1]; exact hd)
  have ho : Old G s s.heap := C.2.2.2.2.2.2.2.2.1.2.2.2.2.2.2.2
  have hmd : mdR vm' := by
    have e1 := ho.1.alike.1
    have e2 := hW'.alike.1
    have e3 : vm'.modules = G.2.2.2.2.2.2.1.vm.modules := by rw [e2, e1]
    show (vm'.modules.all _) = true
    rw [e3]
    exact ho.2.2.2.2.2.1
  obtain ⟨q1, g1, g2, g3, g4⟩ := fc_spec (show vm'.findClass Cn = some cell.cls by rw [hW'.alike.findClass]; exact w3)
  cases hk1.symm.trans g1
  obtain ⟨q2, g5, g6, g7, g8⟩ := fc_spec (show vm'.findClass nm = some cT by rw [hW'.alike.findClass]; exact f2)
  cases hk2.symm.trans g5
  obtain ⟨l1, l2⟩ := msg_len (na := 40) (nb := 40) hmd g4 g8 (by rw [g2]; exact o1.1) (by rw [g6]; exact o2.1) (by rw [shown_len g3, g2]; exact o1.2) (by rw [shown_len g7, g6]; exact o2.2)
  obtain ⟨t, a1, b1⟩ := vm_thrown (nb := 1440) (stk := (.ref a :: st).map (rv sg)) vx_cce hR C hl hH hS (by
    show (((.ref a :: st).map (rv sg)).map fun v => v.category).sum ≤ 100
    rw [cat_map]
    show 1 + (st.map fun v => v.category).sum ≤ 100
    omega) l2 (Nat.le_trans (stringBytes_size_le _) (by have h1 := utf16_size_le (checkcast.message vm' ks' kt'); omega)) (by omega) hce hsl k (T := T.setVm vm') hT X'
  exact ⟨t, hst t a1, b1⟩
