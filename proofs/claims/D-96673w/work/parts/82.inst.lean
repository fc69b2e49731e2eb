set_option maxRecDepth 100000
/-! instanceof, checkcast (printed by gen/nc.py) -/
/-- what lies there is of that class -/
def IsA (h : AHp) (a : Nat) (Cn : String) : Prop := ∀ (M : MI) (G : GX) (l : Launch) (p : Program) (s : State) (m : MethodId) (args : Array Value) (meth : Method) (c : Code) (sg : Nat → Nat) (H : Heap), Cx M G l p s m args meth c → Hd G sg h H → ∃ cell : Cell, H[sg a]? = some cell ∧ cell.vm.isStatics = false ∧ s.vm.findClass Cn = some cell.cls
theorem isA_obj {h : AHp} {ci a : Nat} {fs : List Value} {N : Nat} {Cn : String} {T : u_T} {ty : Nat → FieldType} (b : FB ci Cn T N ty) (hg : aGet h a = some (.inr (ci, fs))) : IsA h a Cn := by
  intro M G l p s m args meth c sg H C hH
  obtain ⟨q0, e1, -⟩ := wso_at (G := G) (sg := sg) (show kn (.inr (ci, fs)) = true from b.2.2.2.2) hg
  exact va_recv C.2.2.2.2.2.2.2.2.1.1 hH.1 b.1 e1
theorem isA_arr {h : AHp} {a n : Nat} {nm : String} {ty : FieldType} {x : (Nat → Int32) ⊕ (Nat → Int64) ⊕ (Nat → UInt32) ⊕ (Nat → UInt64) ⊕ (Nat → Option Nat)} (hq : (nm, ty) ∈ arrL) (hg : aGet h a = some (.inl (ty, n, x))) : IsA h a nm := by
  intro M G l p s m args meth c sg H C hH
  obtain ⟨q0, e1, -⟩ := wso_at (G := G) (sg := sg) rfl hg
  have ho := C.2.2.2.2.2.2.2.2.1.2.2.2.2.2.2.2
  have h2 : s.vm.findClass nm = some (G.2.1 ty) := by rw [ho.1.alike.findClass]; exact ho.2.2.2.2.2.2.2 _ hq
  refine ⟨_, hH.1 q0 _ e1, ?_, ?_⟩
  · rcases x with x | x | x | x | x <;> rfl
  · rw [h2]
    rcases x with x | x | x | x | x <;> rfl
/-- no object of the one class is one of the other -/
def NC (C T : String) : Prop := ∀ G : GX, K0 G → (Cond.not (.castable C T)).before G.2.2.2.2.2.2.2 G.2.2.2.2.2.2.1 = true
theorem NC.at {Cn nm : String} {M : MI} {G : GX} {l : Launch} {p : Program} {s : State} {m : MethodId} {args : Array Value} {meth : Method} {c : Code} (hc : NC Cn nm) (C : Cx M G l p s m args meth c) : va_Nc Cn nm s :=
  (va_Nc.of (hc G C.2.2.2.2.2.2.2.2.1.2.2.2.2.2.2.2.2.2.2)).moved C.2.2.2.2.2.2.2.2.1.2.2.2.2.2.2.2.1.alike
theorem cs_at {Cn nm : String} {M : MI} {G : GX} {l : Launch} {p : Program} {s : State} {m : MethodId} {args : Array Value} {meth : Method} {c : Code} (hc : Cond.castable Cn nm ∈ lw_tbl) (C : Cx M G l p s m args meth c) : va_Nw (.castable Cn nm) s :=
  va_Nw.warmC C.2.2.2.2.2.2.2.2.1.2.2.2.2.2.2.2.1 (va_Nw.of rfl (C.2.2.2.2.2.2.2.2.1.2.2.2.2.2.2.2.2.2.2.1 _ hc))
theorem r_instE {J : Jb} {ce sl pc : Nat} {lv : List (Option Value)} {st : List Value} {h : AHp} {a index : Nat} {nm : String} (ha : IsA h a nm) (hq : Cond.classLink J.1.1.cls index nm ∈ lw_all) (hd : decode J.1.2.1 pc = .ok (.instanceof index, 3)) (kk : Rch J ce sl (pc + 3) lv (.int 1 :: st) h) : Rch J ce sl pc lv (.ref a :: st) h := by
  intro l G sg R p e s m args below meth c H locs ls hR C hl hH hS
  exact va_instE C.1 C.2.1 C.2.2.2.2.1 (C.2.2.2.2.2.1 _ hq) (ha _ _ _ _ _ _ _ _ _ _ _ C hH) hd (kk l G sg R p e s m args below meth c H locs ls hR C hl hH hS)
theorem r_instY {J : Jb} {ce sl pc : Nat} {lv : List (Option Value)} {st : List Value} {h : AHp} {a index : Nat} {Cn nm : String} (ha : IsA h a Cn) (hc : Cond.castable Cn nm ∈ lw_tbl) (hq : Cond.classLink J.1.1.cls index nm ∈ lw_all) (hd : decode J.1.2.1 pc = .ok (.instanceof index, 3)) (kk : Rch J ce sl (pc + 3) lv (.int 1 :: st) h) : Rch J ce sl pc lv (.ref a :: st) h := by
  intro l G sg R p e s m args below meth c H locs ls hR C hl hH hS
  exact va_instY C.1 C.2.1 C.2.2.2.2.1 (C.2.2.2.2.2.1 _ hq) (cs_at hc C) (ha _ _ _ _ _ _ _ _ _ _ _ C hH) hd (kk l G sg R p e s m args below meth c H locs ls hR C hl hH hS)
theorem r_instNo {J : Jb} {ce sl pc : Nat} {lv : List (Option Value)} {st : List Value} {h : AHp} {a index : Nat} {Cn nm : String} (ha : IsA h a Cn) (hc : NC Cn nm) (hq : Cond.classLink J.1.1.cls index nm ∈ lw_all) (hd : decode J.1.2.1 pc = .ok (.instanceof index, 3)) (kk : Rch J ce sl (pc + 3) lv (.int 0 :: st) h) : Rch J ce sl pc lv (.ref a :: st) h := by
  intro l G sg R p e s m args below meth c H locs ls hR C hl hH hS
  exact va_instNo C.1 C.2.1 C.2.2.2.2.1 (C.2.2.2.2.2.1 _ hq) (hc.at C) (ha _ _ _ _ _ _ _ _ _ _ _ C hH) hd (kk l G sg R p e s m args below meth c H locs ls hR C hl hH hS)
theorem r_inst0 {J : Jb} {ce sl pc : Nat} {lv : List (Option Value)} {st : List Value} {h : AHp} {index : Nat} (hd : decode J.1.2.1 pc = .ok (.instanceof index, 3)) (kk : Rch J ce sl (pc + 3) lv (.int 0 :: st) h) : Rch J ce sl pc lv (.null :: st) h := by
  intro l G sg R p e s m args below meth c H locs ls hR C hl hH hS
  exact lv_instN C.1 C.2.1 hd (kk l G sg R p e s m args below meth c H locs ls hR C hl hH hS)
theorem r_castE {J : Jb} {ce sl pc : Nat} {lv : List (Option Value)} {st : List Value} {h : AHp} {a index : Nat} {nm : String} (ha : IsA h a nm) (hq : Cond.classLink J.1.1.cls index nm ∈ lw_all) (hd : decode J.1.2.1 pc = .ok (.checkcast index, 3)) (kk : Rch J ce sl (pc + 3) lv (.ref a :: st) h) : Rch J ce sl pc lv (.ref a :: st) h := by
  intro l G sg R p e s m args below meth c H locs ls hR C hl hH hS
  exact va_castE C.1 C.2.1 C.2.2.2.2.1 (C.2.2.2.2.2.1 _ hq) (ha _ _ _ _ _ _ _ _ _ _ _ C hH) hd (kk l G sg R p e s m args below meth c H locs ls hR C hl hH hS)
theorem r_castY {J : Jb} {ce sl pc : Nat} {lv : List (Option Value)} {st : List Value} {h : AHp} {a index : Nat} {Cn nm : String} (ha : IsA h a Cn) (hc : Cond.castable Cn nm ∈ lw_tbl) (hq : Cond.classLink J.1.1.cls index nm ∈ lw_all) (hd : decode J.1.2.1 pc = .ok (.checkcast index, 3)) (kk : Rch J ce sl (pc + 3) lv (.ref a :: st) h) : Rch J ce sl pc lv (.ref a :: st) h := by
  intro l G sg R p e s m args below meth c H locs ls hR C hl hH hS
  exact va_castY C.1 C.2.1 C.2.2.2.2.1 (C.2.2.2.2.2.1 _ hq) (cs_at hc C) (ha _ _ _ _ _ _ _ _ _ _ _ C hH) hd (kk l G sg R p e s m args below meth c H locs ls hR C hl hH hS)
theorem nc_AB_Looker : NC "[B" "SeenInOrderOfAge$Looker" := fun _ h => nar h [true, false, false, false, false, false, true, false, true, false] rfl
theorem nc_AB_Child : NC "[B" "SeenInOrderOfAge$Child" := fun _ h => nar h [true, false, true, false, true, false, true, false, false, false] rfl
theorem nc_AB_Old : NC "[B" "SeenInOrderOfAge$Old" := fun _ h => nar h [true, false, true, false, true, true, false, false, false, false] rfl
theorem nc_AB_Greedy : NC "[B" "SeenInOrderOfAge$Greedy" := fun _ h => nar h [true, false, true, false, true, true, true, false, false, true] rfl
theorem nc_AB_Giver : NC "[B" "SeenInOrderOfAge$Giver" := fun _ h => nar h [true, false, true, true, false, false, false, false, false, true] rfl
theorem nc_AB_Shy : NC "[B" "SeenInOrderOfAge$Shy" := fun _ h => nar h [true, false, true, true, false, false, true, false, true, false] rfl
theorem nc_AB_AS : NC "[B" "[S" := fun _ h => nar h [true, false, false, true, false, false, false, true, true, true] rfl
theorem nc_AB_AI : NC "[B" "[I" := fun _ h => nar h [true, false, false, true, true, false, false, true, false, false] rfl
theorem nc_AB_AJ : NC "[B" "[J" := fun _ h => nar h [true, false, true, false, false, false, false, false, true, false] rfl
theorem nc_AB_AZ : NC "[B" "[Z" := fun _ h => nar h [true, false, true, false, true, false, false, false, false, false] rfl
theorem nc_AS_Looker : NC "[S" "SeenInOrderOfAge$Looker" := fun _ h => nar h [true, false, false, false, false, false, true, false, true, true] rfl
theorem nc_AS_Child : NC "[S" "SeenInOrderOfAge$Child" := fun _ h => nar h [true, false, true, false, true, false, true, false, false, true] rfl
theorem nc_AS_Old : NC "[S" "SeenInOrderOfAge$Old" := fun _ h => nar h [true, false, true, false, true, true, false, false, false, true] rfl
theorem nc_AS_Greedy : NC "[S" "SeenInOrderOfAge$Greedy" := fun _ h => nar h [true, false, true, false, true, true, true, false, true, false] rfl
theorem nc_AS_Giver : NC "[S" "SeenInOrderOfAge$Giver" := fun _ h => nar h [true, false, true, true, false, false, false, false, true, false] rfl
theorem nc_AS_Shy : NC "[S" "SeenInOrderOfAge$Shy" := fun _ h => nar h [true, false, true, true, false, false, true, false, true, true] rfl
theorem nc_AS_AB : NC "[S" "[B" := fun _ h => nar h [true, false, false, false, true, false, true, false, false, true] rfl
theorem nc_AS_AI : NC "[S" "[I" := fun _ h => nar h [true, false, false, true, true, false, false, true, false, true] rfl
theorem nc_AS_AJ : NC "[S" "[J" := fun _ h => nar h [true, false, true, false, false, false, false, false, true, true] rfl
theorem nc_AS_AZ : NC "[S" "[Z" := fun _ h => nar h [true, false, true, false, true, false, false, false, false, true] rfl
theorem nc_AI_Looker : NC "[I" "SeenInOrderOfAge$Looker" := fun _ h => nar h [true, false, false, false, false, false, false, true, true, true] rfl
theorem nc_AI_Child : NC "[I" "SeenInOrderOfAge$Child" := fun _ h => nar h [true, false, true, false, true, false, false, true, false, true] rfl
theorem nc_AI_Old : NC "[I" "SeenInOrderOfAge$Old" := fun _ h => nar h [true, false, true, false, true, false, true, true, true, false] rfl
theorem nc_AI_Greedy : NC "[I" "SeenInOrderOfAge$Greedy" := fun _ h => nar h [true, false, true, false, true, true, false, true, true, false] rfl
theorem nc_AI_Giver : NC "[I" "SeenInOrderOfAge$Giver" := fun _ h => nar h [true, false, true, false, true, true, true, true, true, true, false] rfl
theorem nc_AI_Shy : NC "[I" "SeenInOrderOfAge$Shy" := fun _ h => nar h [true, false, true, true, false, false, false, true, true, true] rfl
theorem nc_AI_AB : NC "[I" "[B" := fun _ h => nar h [true, false, false, false, true, false, false, true, true, false] rfl
theorem nc_AI_AS : NC "[I" "[S" := fun _ h => nar h [true, false, false, true, false, false, false, true, false, false] rfl
theorem nc_AI_AJ : NC "[I" "[J" := fun _ h => nar h [true, false, false, true, true, true, true, true, true, true, true] rfl
theorem nc_AI_AZ : NC "[I" "[Z" := fun _ h => nar h [true, false, true, false, false, true, true, true, true, false] rfl
theorem nc_AJ_Looker : NC "[J" "SeenInOrderOfAge$Looker" := fun _ h => nar h [true, false, false, false, false, false, true, true, false, false] rfl
theorem nc_AJ_Child : NC "[J" "SeenInOrderOfAge$Child" := fun _ h => nar h [true, false, true, false, true, false, true, false, true, false] rfl
theorem nc_AJ_Old : NC "[J" "SeenInOrderOfAge$Old" := fun _ h => nar h [true, false, true, false, true, true, false, false, true, false] rfl
theorem nc_AJ_Greedy : NC "[J" "SeenInOrderOfAge$Greedy" := fun _ h => nar h [true, false, true, false, true, true, true, false, true, true] rfl
theorem nc_AJ_Giver : NC "[J" "SeenInOrderOfAge$Giver" := fun _ h => nar h [true, false, true, true, false, false, false, false, true, true] rfl
theorem nc_AJ_Shy : NC "[J" "SeenInOrderOfAge$Shy" := fun _ h => nar h [true, false, true, true, false, false, true, true, false, false] rfl
theorem nc_AJ_AB : NC "[J" "[B" := fun _ h => nar h [true, false, false, false, true, false, true, false, true, false] rfl
theorem nc_AJ_AS : NC "[J" "[S" := fun _ h => nar h [true, false, false, true, false, false, true, false, false, false] rfl
theorem nc_AJ_AI : NC "[J" "[I" := fun _ h => nar h [true, false, false, true, true, false, false, true, true, false] rfl
theorem nc_AJ_AZ : NC "[J" "[Z" := fun _ h => nar h [true, false, true, false, true, false, false, false, true, false] rfl
theorem nc_AZ_Looker : NC "[Z" "SeenInOrderOfAge$Looker" := fun _ h => nar h [true, false, false, false, false, false, true, true, false, true] rfl
theorem nc_AZ_Child : NC "[Z" "SeenInOrderOfAge$Child" := fun _ h => nar h [true, false, true, false, true, false, true, false, true, true] rfl
theorem nc_AZ_Old : NC "[Z" "SeenInOrderOfAge$Old" := fun _ h => nar h [true, false, true, false, true, true, false, false, true, true] rfl
theorem nc_AZ_Greedy : NC "[Z" "SeenInOrderOfAge$Greedy" := fun _ h => nar h [true, false, true, false, true, true, true, true, false, false] rfl
theorem nc_AZ_Giver : NC "[Z" "SeenInOrderOfAge$Giver" := fun _ h => nar h [true, false, true, true, false, false, false, true, false, false] rfl
theorem nc_AZ_Shy : NC "[Z" "SeenInOrderOfAge$Shy" := fun _ h => nar h [true, false, true, true, false, false, true, true, false, true] rfl
theorem nc_AZ_AB : NC "[Z" "[B" := fun _ h => nar h [true, false, false, false, true, false, true, false, true, true] rfl
theorem nc_AZ_AS : NC "[Z" "[S" := fun _ h => nar h [true, false, false, true, false, false, true, false, false, true] rfl
theorem nc_AZ_AI : NC "[Z" "[I" := fun _ h => nar h [true, false, false, true, true, false, false, true, true, true] rfl
theorem nc_AZ_AJ : NC "[Z" "[J" := fun _ h => nar h [true, false, true, false, false, false, false, true, false, false] rfl
theorem nc_Looker_Child : NC "SeenInOrderOfAge$Looker" "SeenInOrderOfAge$Child" := fun _ h => nar h [false, true, true, false, true, false, true, false, true, true] rfl
theorem nc_Looker_Old : NC "SeenInOrderOfAge$Looker" "SeenInOrderOfAge$Old" := fun _ h => nar h [false, true, true, false, true, true, true, true, true, true, false] rfl
theorem nc_Looker_Greedy : NC "SeenInOrderOfAge$Looker" "SeenInOrderOfAge$Greedy" := fun _ h => nar h [false, true, true, true, false, true, false, false, true, true] rfl
theorem nc_Looker_Giver : NC "SeenInOrderOfAge$Looker" "SeenInOrderOfAge$Giver" := fun _ h => nar h [false, true, true, true, true, false, true, false, false, false] rfl
theorem nc_Looker_Shy : NC "SeenInOrderOfAge$Looker" "SeenInOrderOfAge$Shy" := fun _ h => nar h [false, true, true, true, true, true, true, true, false, true] rfl
theorem nc_Child_Old : NC "SeenInOrderOfAge$Child" "SeenInOrderOfAge$Old" := fun _ h => nar h [false, true, true, false, true, true, true, true, true, true, true] rfl
theorem nc_Child_Greedy : NC "SeenInOrderOfAge$Child" "SeenInOrderOfAge$Greedy" := fun _ h => nar h [false, true, true, true, false, true, false, true, false, false] rfl
theorem nc_Child_Giver : NC "SeenInOrderOfAge$Child" "SeenInOrderOfAge$Giver" := fun _ h => nar h [false, true, true, true, true, false, true, false, false, true] rfl
theorem nc_Child_Shy : NC "SeenInOrderOfAge$Child" "SeenInOrderOfAge$Shy" := fun _ h => nar h [false, true, true, true, true, true, true, true, true, false] rfl
theorem nc_Old_Child : NC "SeenInOrderOfAge$Old" "SeenInOrderOfAge$Child" := fun _ h => nar h [false, true, true, false, true, false, true, true, false, false] rfl
theorem nc_Old_Greedy : NC "SeenInOrderOfAge$Old" "SeenInOrderOfAge$Greedy" := fun _ h => nar h [false, true, true, true, false, true, false, true, false, true] rfl
theorem nc_Old_Giver : NC "SeenInOrderOfAge$Old" "SeenInOrderOfAge$Giver" := fun _ h => nar h [false, true, true, true, true, false, true, false, true, false] rfl
theorem nc_Old_Shy : NC "SeenInOrderOfAge$Old" "SeenInOrderOfAge$Shy" := fun _ h => nar h [false, true, true, true, true, true, true, true, true, true, false] rfl
theorem nc_Greedy_Old : NC "SeenInOrderOfAge$Greedy" "SeenInOrderOfAge$Old" := fun _ h => nar h [false, true, true, true, false, false, false, false, false, false] rfl
theorem nc_Greedy_Giver : NC "SeenInOrderOfAge$Greedy" "SeenInOrderOfAge$Giver" := fun _ h => nar h [false, true, true, true, true, false, true, false, true, true] rfl
theorem nc_Greedy_Shy : NC "SeenInOrderOfAge$Greedy" "SeenInOrderOfAge$Shy" := fun _ h => nar h [false, true, true, true, true, true, true, true, true, true, true] rfl
theorem nc_Giver_Child : NC "SeenInOrderOfAge$Giver" "SeenInOrderOfAge$Child" := fun _ h => nar h [false, true, true, false, true, false, true, true, false, true] rfl
theorem nc_Giver_Greedy : NC "SeenInOrderOfAge$Giver" "SeenInOrderOfAge$Greedy" := fun _ h => nar h [false, true, true, true, false, true, false, true, true, false] rfl
theorem nc_Giver_Shy : NC "SeenInOrderOfAge$Giver" "SeenInOrderOfAge$Shy" := fun _ h => nar h [true, false, false, false, false, false, false, false, false, false] rfl
theorem nc_Shy_Child : NC "SeenInOrderOfAge$Shy" "SeenInOrderOfAge$Child" := fun _ h => nar h [false, true, true, false, true, false, true, true, true, false] rfl
theorem nc_Shy_Old : NC "SeenInOrderOfAge$Shy" "SeenInOrderOfAge$Old" := fun _ h => nar h [false, true, true, true, false, false, false, false, false, true] rfl
theorem nc_Shy_Greedy : NC "SeenInOrderOfAge$Shy" "SeenInOrderOfAge$Greedy" := fun _ h => nar h [false, true, true, true, false, true, false, true, true, true] rfl
theorem nc_Shy_Giver : NC "SeenInOrderOfAge$Shy" "SeenInOrderOfAge$Giver" := fun _ h => nar h [false, true, true, true, true, false, true, true, false, false] rfl
theorem nc_ArrayIndexOutOfBounds_Refused : NC "java/lang/ArrayIndexOutOfBoundsException" "SeenInOrderOfAge$Refused" := fun _ h => nar h [false, false, true, true, true, false, true, true, false, false] rfl
theorem nc_ArrayStore_NullPointer : NC "java/lang/ArrayStoreException" "java/lang/NullPointerException" := fun _ h => nar h [false, true, false, false, true, false, true, false, false, false] rfl
theorem nc_ArrayIndexOutOfBounds_NullPointer : NC "java/lang/ArrayIndexOutOfBoundsException" "java/lang/NullPointerException" := fun _ h => nar h [false, true, false, false, true, false, false, true, true, false] rfl
theorem nc_ArrayIndexOutOfBounds_ArrayStore : NC "java/lang/ArrayIndexOutOfBoundsException" "java/lang/ArrayStoreException" := fun _ h => nar h [false, true, false, false, true, true, true, true, false, false] rfl
def mX0_copy : MI := (yX0_copy, cX0_copy, 9, (Option.some Jvm.ClassFile.FieldType.int), [(66, 80, 81, 144), (66, 80, 90, 146), (66, 80, 99, 148)])
theorem oxX0_copy : MxV mX0_copy 5 := ⟨⟨q460, q83, ⟨by decide +kernel, by decide +kernel, by decide +kernel⟩, by decide⟩, q458, q459⟩
def mX0_element : MI := (yX0_element, cX0_element, 4, (Option.some Jvm.ClassFile.FieldType.long), [(9, 18, 19, 119), (9, 18, 22, 136)])
theorem oxX0_element : MxV mX0_element 2 := ⟨⟨q507, q83, ⟨by decide +kernel, by decide +kernel, by decide +kernel⟩, by decide⟩, q505, q506⟩
def mX0_judge : MI := (yX0_judge, cX0_judge, 4, (Option.some Jvm.ClassFile.FieldType.int), [(0, 10, 11, 119)])
theorem oxX0_judge : MxV mX0_judge 2 := ⟨⟨q1444, q83, ⟨by decide +kernel, by decide +kernel, by decide +kernel⟩, by decide⟩, q1442, q1443⟩
def mX0_row : MI := (yX0_row, cX0_row, 5, (Option.some Jvm.ClassFile.FieldType.int), [(29, 43, 46, 117)])
theorem oxX0_row : MxV mX0_row 3 := ⟨⟨q286, q83, ⟨by decide +kernel, by decide +kernel, by decide +kernel⟩, by decide⟩, q284, q285⟩
def mX0_says : MI := (yX0_says, cX0_says, 5, (Option.some Jvm.ClassFile.FieldType.int), [(44, 95, 141, 178), (96, 104, 141, 178), (105, 113, 141, 178), (114, 122, 141, 178), (123, 131, 141, 178), (132, 140, 141, 178)])
theorem oxX0_says : MxV mX0_says 2 := ⟨⟨q527, q83, ⟨by decide +kernel, by decide +kernel, by decide +kernel⟩, by decide⟩, q525, q526⟩
def mX0_set : MI := (yX0_set, cX0_set, 6, (Option.some Jvm.ClassFile.FieldType.int), [(14, 25, 26, 119), (14, 25, 38, 136)])
theorem oxX0_set : MxV mX0_set 3 := ⟨⟨q394, q83, ⟨by decide +kernel, by decide +kernel, by decide +kernel⟩, by decide⟩, q392, q393⟩
def mX0_toldIn : MI := (yX0_toldIn, cX0_toldIn, 6, (Option.some (Jvm.ClassFile.FieldType.array Jvm.ClassFile.FieldType.long)), [(40, 68, 71, 136)])
theorem oxX0_toldIn : MxV mX0_toldIn 2 := ⟨⟨q1448, q83, ⟨by decide +kernel, by decide +kernel, by decide +kernel⟩, by decide⟩, q1447, qs33⟩
def mX0_window : MI := (yX0_window, cX0_window, 5, (Option.some Jvm.ClassFile.FieldType.int), [(0, 38, 45, 233), (0, 38, 68, 0), (45, 61, 68, 0), (68, 70, 68, 0)])
theorem oxX0_window : MxV mX0_window 0 := ⟨⟨q990, q83, ⟨by decide +kernel, by decide +kernel, by decide +kernel⟩, by decide⟩, q988, q989⟩
theorem oxX0_rowOf : MxS mX0_rowOf 2 := okX0_rowOf.x rfl
theorem oxX0_elementOf : MxS mX0_elementOf 2 := okX0_elementOf.x rfl
theorem oxX0_puts : MxS mX0_puts 3 := okX0_puts.x rfl
theorem oxX0_rowIn : MxV mX0_rowIn 1 := okX0_rowIn.x rfl
theorem oxX13_number : MxV mX13_number 2 := okX13_number.x rfl
theorem oxX13_looker : MxV mX13_looker 0 := okX13_looker.x rfl
theorem oxX13_sort : MxV mX13_sort 0 := okX13_sort.x rfl
theorem oxX13_item : MxV mX13_item 0 := okX13_item.x rfl
theorem oxX13_read : MxV mX13_read 0 := okX13_read.x rfl
theorem srY {own Cn nm : String} {pc : Nat} {G : GX} {a b hp ct : Nat} {qs : List Qd} (h1 : (decide (a ≤ pc) && decide (pc < b)) = true) (h0 : ct ≠ 0) (hl : Cond.classLink own ct nm ∈ lw_all) (hc : Cond.castable Cn nm ∈ lw_tbl) : SrP own Cn pc hp G ((a, b, hp, ct) :: qs) := Or.inr ⟨h1, h0, nm, hl, Or.inl ⟨hc, rfl⟩⟩
theorem srS {own Cn : String} {pc hp : Nat} {G : GX} {q : Qd} {qs : List Qd} (h1 : (decide (q.1 ≤ pc) && decide (pc < q.2.1)) = false) (k : SrP own Cn pc hp G qs) : SrP own Cn pc hp G (q :: qs) := Or.inl ⟨h1, k⟩
theorem srN {own Cn nm : String} {pc hp : Nat} {G : GX} {q : Qd} {qs : List Qd} (hk : K0 G) (h1 : (decide (q.1 ≤ pc) && decide (pc < q.2.1)) = true) (h0 : q.2.2.2 ≠ 0) (hl : Cond.classLink own q.2.2.2 nm ∈ lw_all) (hc : NC Cn nm) (k : SrP own Cn pc hp G qs) : SrP own Cn pc hp G (q :: qs) := Or.inr ⟨h1, h0, nm, hl, Or.inr ⟨hc G hk, k⟩⟩
