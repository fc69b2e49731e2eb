set_option maxRecDepth 100000
/-! THE ABSTRACT LAYER: cells by labels, an abstract heap in regions, one judgement 'Rch' over the kit's W -/
/-- an abstract cell: an array (element type, length and contents), or an object (number of its class, fields); class 99: of no account -/
abbrev AC : Type := (FieldType × vp_A) ⊕ (Nat × List Value)
/-- four regions: label 8 * i + r is place i of region r; region 3 grows -/
abbrev AHp : Type := List AC × List AC × List AC × List AC
/-- an end: returned, or threw (label and class of what was thrown) -/
abbrev OC : Type := Option Value ⊕ (Nat × String)
def rv (sg : Nat → Nat) (v : Value) : Value := match v with
  | .ref a => .ref (sg a)
  | w => w
def ra (sg : Nat → Nat) (a : vp_A) : vp_A := match a with
  | (n, .inr (.inr (.inr (.inr f)))) => (n, .inr (.inr (.inr (.inr (fun j => (f j).map sg)))))
  | b => b
/-- class numbers and slots; array classes; the heap's size at the law's start; addresses of what is read only (region 4); the script; the start itself -/
abbrev GX : Type := va_G × (FieldType → ClassId) × Nat × (Nat → Nat) × Nat × (Nat → Int32) × State × Array Value
def gA (G : GX) : Nat → Prop := fun q => G.2.2.1 ≤ q
def ae (G : GX) (sg : Nat → Nat) (c : AC) : va_E := match c with
  | .inl (ty, a) => .inl (G.2.1 ty, ra sg a)
  | .inr (ci, fs) => .inr (ci, fs.map (rv sg))
def kn (c : AC) : Bool := match c with
  | .inl _ => true
  | .inr (ci, _) => ci != 99
def rg (G : GX) (sg : Nat → Nat) (r : Nat) : Nat → List AC → va_W
  | _, [] => []
  | i, c :: l => if kn c = true then (sg (8 * i + r), ae G sg c) :: rg G sg r (i + 1) l else rg G sg r (i + 1) l
def wso (G : GX) (sg : Nat → Nat) (h : AHp) : va_W := rg G sg 0 0 h.1 ++ (rg G sg 1 0 h.2.1 ++ (rg G sg 2 0 h.2.2.1 ++ rg G sg 3 0 h.2.2.2))
def aGet (h : AHp) (a : Nat) : Option AC := match a % 8 with
  | 0 => h.1[a / 8]?
  | 1 => h.2.1[a / 8]?
  | 2 => h.2.2.1[a / 8]?
  | 3 => h.2.2.2[a / 8]?
  | _ => none
def aSet (h : AHp) (a : Nat) (c : AC) : AHp := match a % 8 with
  | 0 => (h.1.set (a / 8) c, h.2.1, h.2.2.1, h.2.2.2)
  | 1 => (h.1, h.2.1.set (a / 8) c, h.2.2.1, h.2.2.2)
  | 2 => (h.1, h.2.1, h.2.2.1.set (a / 8) c, h.2.2.2)
  | 3 => (h.1, h.2.1, h.2.2.1, h.2.2.2.set (a / 8) c)
  | _ => h
def aNew (h : AHp) : Nat := 8 * h.2.2.2.length + 3
def aPush (h : AHp) (c : AC) : AHp := (h.1, h.2.1, h.2.2.1, h.2.2.2 ++ [c])
theorem rg_at (G : GX) (sg : Nat → Nat) (r : Nat) (c : AC) (hk : kn c = true) : ∀ (l : List AC) (i j : Nat), l[j]? = some c →
    ∃ q0, (rg G sg r i l)[q0]? = some (sg (8 * (i + j) + r), ae G sg c) ∧ ∀ c', kn c' = true → (rg G sg r i l).set q0 (sg (8 * (i + j) + r), ae G sg c') = rg G sg r i (l.set j c')
  | [], i, j, h => by simp at h
  | d :: l, i, 0, h => by
    simp only [List.getElem?_cons_zero, Option.some.injEq] at h
    subst h
    refine ⟨0, ?_, fun c' hc' => ?_⟩
    · simp [rg, hk]
    · simp [rg, hk, hc']
  | d :: l, i, j + 1, h => by
    simp only [List.getElem?_cons_succ] at h
    obtain ⟨q0, h1, h2⟩ := rg_at G sg r c hk l (i + 1) j h
    rw [show i + 1 + j = i + (j + 1) by omega] at h1 h2
    by_cases hd : kn d = true
    · refine ⟨q0 + 1, ?_, fun c' hc' => ?_⟩
      · simpa [rg, hd] using h1
      · simpa [rg, hd] using h2 c' hc'
    · refine ⟨q0, ?_, fun c' hc' => ?_⟩
      · simpa [rg, hd] using h1
      · simpa [rg, hd] using h2 c' hc'
theorem rg_push (G : GX) (sg : Nat → Nat) (r : Nat) (c : AC) : ∀ (l : List AC) (i : Nat), rg G sg r i (l ++ [c]) = rg G sg r i l ++ (if kn c = true then [(sg (8 * (i + l.length) + r), ae G sg c)] else [])
  | [], i => by simp [rg]
  | d :: l, i => by
    have := rg_push G sg r c l (i + 1)
    rw [show i + 1 + l.length = i + (l.length + 1) by omega] at this
    by_cases hd : kn d = true
    · simp [rg, hd, this]
    · simp [rg, hd, this]
theorem app_at {α : Type} {x y : List α} {q : Nat} {v : α} (h : y[q]? = some v) : (x ++ y)[x.length + q]? = some v ∧ ∀ w, (x ++ y).set (x.length + q) w = x ++ y.set q w := by
  refine ⟨by rw [List.getElem?_append_right (by omega)]; simpa using h, fun w => ?_⟩
  rw [List.set_append_right _ _ (by omega)]
  simp
theorem app_at2 {α : Type} {x y : List α} {q : Nat} {v : α} (h : x[q]? = some v) : (x ++ y)[q]? = some v ∧ ∀ w, (x ++ y).set q w = x.set q w ++ y := by
  have hq : q < x.length := (List.getElem?_eq_some_iff.mp h).1
  exact ⟨by rw [List.getElem?_append_left hq]; exact h, fun w => List.set_append_left _ _ hq⟩
theorem wso_at {G : GX} {sg : Nat → Nat} {h : AHp} {a : Nat} {c : AC} (hk : kn c = true) (hg : aGet h a = some c) :
    ∃ q0, (wso G sg h)[q0]? = some (sg a, ae G sg c) ∧ ∀ c', kn c' = true → (wso G sg h).set q0 (sg a, ae G sg c') = wso G sg (aSet h a c') := by
  have key : ∀ r, a % 8 = r → 8 * (0 + a / 8) + r = a := fun r hr => by omega
  unfold aGet at hg
  split at hg
  · rename_i hr
    obtain ⟨q0, h1, h2⟩ := rg_at G sg 0 c hk h.1 0 (a / 8) hg
    rw [key 0 hr] at h1 h2
    refine ⟨q0, (app_at2 h1).1, fun c' hc' => ?_⟩
    unfold wso aSet
    rw [hr]
    rw [(app_at2 h1).2, h2 c' hc']
    rfl
  · rename_i hr
    obtain ⟨q0, h1, h2⟩ := rg_at G sg 1 c hk h.2.1 0 (a / 8) hg
    rw [key 1 hr] at h1 h2
    have e1 := app_at2 (y := rg G sg 2 0 h.2.2.1 ++ rg G sg 3 0 h.2.2.2) h1
    have e2 := app_at (x := rg G sg 0 0 h.1) e1.1
    refine ⟨_, e2.1, fun c' hc' => ?_⟩
    unfold wso aSet
    rw [hr]
    rw [e2.2, e1.2, h2 c' hc']
    rfl
  · rename_i hr
    obtain ⟨q0, h1, h2⟩ := rg_at G sg 2 c hk h.2.2.1 0 (a / 8) hg
    rw [key 2 hr] at h1 h2
    have e1 := app_at2 (y := rg G sg 3 0 h.2.2.2) h1
    have e2 := app_at (x := rg G sg 1 0 h.2.1) e1.1
    have e3 := app_at (x := rg G sg 0 0 h.1) e2.1
    refine ⟨_, e3.1, fun c' hc' => ?_⟩
    unfold wso aSet
    rw [hr]
    rw [e3.2, e2.2, e1.2, h2 c' hc']
    rfl
  · rename_i hr
    obtain ⟨q0, h1, h2⟩ := rg_at G sg 3 c hk h.2.2.2 0 (a / 8) hg
    rw [key 3 hr] at h1 h2
    have e1 := app_at (x := rg G sg 2 0 h.2.2.1) h1
    have e2 := app_at (x := rg G sg 1 0 h.2.1) e1.1
    have e3 := app_at (x := rg G sg 0 0 h.1) e2.1
    refine ⟨_, e3.1, fun c' hc' => ?_⟩
    unfold wso aSet
    rw [hr]
    rw [e3.2, e2.2, e1.2, h2 c' hc']
    rfl
  · cases hg
theorem wso_push {G : GX} {sg : Nat → Nat} {h : AHp} {c : AC} (hk : kn c = true) : wso G sg (aPush h c) = wso G sg h ++ [(sg (aNew h), ae G sg c)] := by
  unfold wso aPush aNew
  dsimp only
  rw [rg_push, if_pos hk, Nat.zero_add]
  simp [List.append_assoc]
theorem wso_opq {G : GX} {sg : Nat → Nat} {h : AHp} {c : AC} (hk : kn c = false) : wso G sg (aPush h c) = wso G sg h := by
  unfold wso aPush
  dsimp only
  rw [rg_push, if_neg (by rw [hk]; decide)]
  simp
/-- the classes by number -/
def vCl : List vw_C := [(RX0, TX0, 12), (RX1, TX1, 10), (RX2, TX2, 2), (RX3, TX3, 5), (RX4, TX4, 1), (RX5, TX5, 33), (RX6, TX6, 7), (RX7, TX7, 2), (RX8, TX8, 2), (RX9, TX9, 2), (RX10, TX10, 2), (RX11, TX11, 2), (RX12, TX12, 2), (RX13, TX13, 7), (RX14, TX14, 7), (RJ5, TJ5, 4), (RJ12, TJ12, 4)]
def tyL : List FieldType := [.int, .long, .byte, .short, .boolean, .object "SeenInOrderOfAge$Looker", .object "SeenInOrderOfAge$Sheet"]
def gT (G : GX) : List (ClassId × FieldType) := tyL.map (fun t => (G.2.1 t, t))
def Hd (G : GX) (sg : Nat → Nat) (h : AHp) (H : Heap) : Prop := va_P G.1 vCl (wso G sg h) H ∧ va_D (gA G) (wso G sg h) ∧ G.2.2.1 ≤ H.size ∧ (∀ i, sg (8 * (h.2.2.2.length + i) + 3) = H.size + i) ∧ ∀ i, sg (8 * i + 4) = G.2.2.2.1 i
def nwM : List (String × Nat × MethodName × String) := [("SeenInOrderOfAge", 35, ⟨"SeenInOrderOfAge$Window", "<init>", "()V"⟩, "SeenInOrderOfAge"), ("SeenInOrderOfAge", 52, ⟨"SeenInOrderOfAge$Evening", "<init>", "()V"⟩, "SeenInOrderOfAge"), ("SeenInOrderOfAge", 79, ⟨"SeenInOrderOfAge$Sheet", "<init>", "()V"⟩, "SeenInOrderOfAge"), ("SeenInOrderOfAge$Window", 74, ⟨"SeenInOrderOfAge", "isIn", "(III)Z"⟩, "SeenInOrderOfAge"), ("SeenInOrderOfAge$Window", 81, ⟨"SeenInOrderOfAge", "has", "(II)Z"⟩, "SeenInOrderOfAge"), ("SeenInOrderOfAge$Window", 64, ⟨"SeenInOrderOfAge", "made", "(III)LSeenInOrderOfAge$Looker;"⟩, "SeenInOrderOfAge"), ("SeenInOrderOfAge$Shy", 15, ⟨"SeenInOrderOfAge", "has", "(II)Z"⟩, "SeenInOrderOfAge"), ("SeenInOrderOfAge$Panes", 27, ⟨"SeenInOrderOfAge", "has", "(II)Z"⟩, "SeenInOrderOfAge"), ("SeenInOrderOfAge$Evening", 73, ⟨"SeenInOrderOfAge", "has", "(II)Z"⟩, "SeenInOrderOfAge")]
def nwC : List (String × String) := [("SeenInOrderOfAge$Child", "SeenInOrderOfAge$Looker"), ("SeenInOrderOfAge$Giver", "SeenInOrderOfAge$Looker"), ("SeenInOrderOfAge$Old", "SeenInOrderOfAge$Looker"), ("SeenInOrderOfAge$Greedy", "SeenInOrderOfAge$Looker"), ("SeenInOrderOfAge$Shy", "SeenInOrderOfAge$Looker"), ("SeenInOrderOfAge$Greedy", "SeenInOrderOfAge$Child"), ("SeenInOrderOfAge$Giver", "SeenInOrderOfAge$Old")]
/-- the String constants: class, entry -/
def strC : List (String × Nat) := [("java/lang/ArrayIndexOutOfBoundsException", 13), ("SeenInOrderOfAge$Reader", 57), ("SeenInOrderOfAge$Reader", 88), ("SeenInOrderOfAge$Reader", 90), ("SeenInOrderOfAge$Reader", 92), ("SeenInOrderOfAge$Reader", 94), ("SeenInOrderOfAge$Reader", 96), ("SeenInOrderOfAge$Reader", 98), ("SeenInOrderOfAgeModel", 165), ("SeenInOrderOfAgeModel", 175), ("SeenInOrderOfAgeModel", 177), ("SeenInOrderOfAgeModel", 179), ("SeenInOrderOfAgeModel", 181), ("SeenInOrderOfAgeModel", 182)]
/-- what lies in region 4 beside the script: the String constants (label 8 * i + 12), their bytes (8 * i + 124), two statics of Throwable (236, 244), one of Preconditions (252) -/
def strT : List Term := strC.map (fun q => Term.string q.1 q.2) ++ (strC.map (fun q => Term.field (Term.string q.1 q.2) "java/lang/String" "value" "[B") ++ [Term.static "java/lang/Throwable" "UNASSIGNED_STACK" "[Ljava/lang/StackTraceElement;", Term.static "java/lang/Throwable" "SUPPRESSED_SENTINEL" "Ljava/util/List;", Term.static "jdk/internal/util/Preconditions" "SIOOBE_FORMATTER" "Ljava/util/function/BiFunction;"])
def K1 (G : GX) : Prop := ∀ (i : Nat) (t : Term) (a : Nat), strT[i]? = some t → t.eval G.2.2.2.2.2.2.2 G.2.2.2.2.2.2.1 none [] G.2.2.2.2.2.2.1 = some (.ref a) → G.2.2.2.1 (i + 1) = a
def arrL : List (String × FieldType) := [("[I", .int), ("[J", .long), ("[B", .byte), ("[S", .short), ("[Z", .boolean)]
def K2 (G : GX) : Prop := ∀ q ∈ arrL, G.2.2.2.2.2.2.1.vm.findClass q.1 = some (G.2.1 q.2)
/-- what is known of the start itself -/
def K0 (G : GX) : Prop := (∀ w ∈ lw_tbl, w.before G.2.2.2.2.2.2.2 G.2.2.2.2.2.2.1 = true) ∧ (Cond.and given_1 narrow_1).before G.2.2.2.2.2.2.2 G.2.2.2.2.2.2.1 = true ∧ modulesRight_1 G.2.2.2.2.2.2.1 = true ∧ K1 G ∧ K2 G
/-- the start lies below as it was -/
def Old (G : GX) (U : State) (H : Heap) : Prop := G.2.2.2.2.2.2.1.WarmedH U.vm ∧ G.2.2.2.2.2.2.1.heap.size = G.2.2.1 ∧ (∀ q, q < G.2.2.1 → H[q]? = G.2.2.2.2.2.2.1.heap[q]?) ∧ K0 G
/-- what is given of the start beyond the classes: facts that hold all through the run -/
def GE (G : GX) (U : State) (H : Heap) : Prop := va_X (G.2.2.2.1 0) G.2.2.2.2.1 G.2.2.2.2.2.1 U H ∧ G.2.2.2.1 0 < G.2.2.1 ∧ Old G U H
def GP (G : GX) (U : State) : Prop := va_K G.1 vCl (gT G) U ∧ (∀ w ∈ nwM, va_Nw (.methodLinkNest w.1 w.2.1 w.2.2.1 w.2.2.2) U) ∧ (∀ w ∈ nwC, va_Nw (.castable w.1 w.2) U) ∧ va_AO "SeenInOrderOfAge$Looker" U ∧ va_AO "SeenInOrderOfAge$Sheet" U ∧ GE G U U.heap
theorem GE.next {G : GX} {s U : State} {H : Heap} (h : GE G s s.heap) (hW : s.WarmedH U.vm) (hsz : G.2.2.1 ≤ s.heap.size) (hk : ∀ q, q < s.heap.size → ¬ gA G q → H[q]? = s.heap[q]?) : GE G U H :=
  ⟨(h.1.moved hW.alike).kept (hk _ (Nat.lt_of_lt_of_le h.2.1 hsz) (Nat.not_le.mpr h.2.1)), h.2.1, State.WarmedH.trans h.2.2.1 hW, h.2.2.2.1, fun q hq => (hk q (Nat.lt_of_lt_of_le hq hsz) (Nat.not_le.mpr hq)).trans (h.2.2.2.2.1 q hq), h.2.2.2.2.2⟩
theorem GP.next {G : GX} {s U : State} {locs : List Loc} (h : GP G s) (hW : s.WarmedH U.vm) (hsz : G.2.2.1 ≤ s.heap.size) (hS : va_S (gA G) s.heap U.heap locs) : GP G U :=
  ⟨h.1.moved hW.alike, fun w hw => va_Nw.warmM hW (h.2.1 w hw), fun w hw => va_Nw.warmC hW (h.2.2.1 w hw), h.2.2.2.1.moved hW.alike, h.2.2.2.2.1.moved hW.alike, h.2.2.2.2.2.next hW hsz hS.2.1⟩
theorem GP.call {G : GX} {U : State} (g : JFrame) (mk : MethodId) (a : Array Value) (h : GP G U) : GP G (U.calling g mk a) :=
  ⟨h.1.moved (Vm.Alike.refl U.vm), fun w hw => va_Nw.same rfl rfl (h.2.1 w hw), fun w hw => va_Nw.same rfl rfl (h.2.2.1 w hw), h.2.2.2.1.moved (Vm.Alike.refl U.vm), h.2.2.2.2.1.moved (Vm.Alike.refl U.vm), ⟨h.2.2.2.2.2.1.moved (Vm.Alike.refl U.vm), h.2.2.2.2.2.2.1, h.2.2.2.2.2.2.2.1, h.2.2.2.2.2.2.2.2⟩⟩
def ocR (sg : Nat → Nat) (s t : State) (x : OC) (o : Outcome) : Prop := match x with
  | .inl r => o = .returned (r.map (rv sg))
  | .inr (a, C) => o = .threw (sg a) ∧ ∃ cell : Cell, t.heap[sg a]? = some cell ∧ cell.vm.isStatics = false ∧ s.vm.findClass C = some cell.cls
/-- the end of a method: its outcome, its heap, nothing old written -/
def MQX (below : List Frame) (G : GX) (sg : Nat → Nat) (Q : OC → AHp → Prop) (s : State) (mc ms : Nat) : State → Prop := fun t =>
  ∃ o, t.status = .running ∧ Ended t below o ∧ (∃ (x : OC) (h' : AHp), ocR sg s t x o ∧ Q x h' ∧ Hd G sg h' t.heap ∧ va_F (gA G) s t) ∧ ∃ L, (s.WarmedH t.vm ∧ s.sameButNew ({ t with vm := s.vm } : State) L mc ms) ∧ ∀ q ∈ L, gA G q.base
/-- a method: name, code, locals, answer, handlers -/
abbrev MI : Type := MethodName × ByteArray × Nat × Option FieldType × List (Nat × Nat × Nat × Nat)
/-- a job: the method; depth, cells, slots; what must hold at its end -/
abbrev Jb : Type := MI × Nat × Nat × Nat × (OC → AHp → Prop)
abbrev rmD (d mc ms : Nat) : Room := { frames := 20 + d, cells := mc, slots := ms, locals := 12000 + 40 * d }
def RmOk (R : Room) (d mc ms : Nat) : Prop := 20 + d ≤ R.frames ∧ 12000 + 40 * d ≤ R.locals ∧ mc ≤ R.cells ∧ ms ≤ R.slots
def Cx (M : MI) (G : GX) (l : Launch) (p : Program) (s : State) (m : MethodId) (args : Array Value) (meth : Method) (c : Code) : Prop :=
  p.tables.exec = Jvm.exec ∧ c.code = M.2.1 ∧ meth.sig.returnType = M.2.2.2.1 ∧ c.maxLocals = M.2.2.1 ∧ s.vm.findClass M.1.cls = some m.cls ∧ (∀ w ∈ lw_all, w.before args s = true) ∧ meth.locks = false ∧ meth.name = M.1.name ∧ GP G s ∧ G.2.2.1 ≤ s.heap.size ∧ c.exceptionTable.toList.map (fun x => (x.startPc, x.endPc, x.handlerPc, x.catchType)) = M.2.2.2.2 ∧ l.flags = flags0
def LvH (sg : Nat → Nat) (ls : Array Slot) (nL : Nat) (lv : List (Option Value)) : Prop := ls.size = nL ∧ lv_wf ls ∧ ∀ (i : Nat) (v : Value), lv[i]? = some (some v) → ls[i]? = some (.val (rv sg v))
def Rch (J : Jb) (ce sl pc : Nat) (lv : List (Option Value)) (st : List Value) (h : AHp) : Prop :=
  ∀ (l : Launch) (G : GX) (sg : Nat → Nat) (R : Room) (p : Program) (e : Env) (s : State) (m : MethodId) (args : Array Value) (below : List Frame) (meth : Method) (c : Code) (H : Heap) (locs : List Loc) (ls : Array Slot),
    RmOk R J.2.1 J.2.2.1 J.2.2.2.1 → Cx J.1 G l p s m args meth c → LvH sg ls J.1.2.2.1 lv → Hd G sg h H → va_S (gA G) s.heap H locs →
    W p l e R s m args below meth c H locs ce sl (MQX below G sg J.2.2.2.2 s J.2.2.1 J.2.2.2.1) (F0 m pc ls (st.map (rv sg)))
