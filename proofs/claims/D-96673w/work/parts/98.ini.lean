set_option maxRecDepth 100000
/-! the component: constructors (printed by gen/ini.py): new cells lie behind D -/
theorem dynG {r0 x1 h2 D cs : List AC} {k i : Nat} {c : AC} (hk : D.length = k) (h : cs[i]? = some c) : aGet (r0, x1, h2, D ++ cs) (8 * (k + i) + 3) = some c := by
  unfold aGet
  rw [show (8 * (k + i) + 3) % 8 = 3 by omega, show (8 * (k + i) + 3) / 8 = k + i by omega]
  show (D ++ cs)[k + i]? = some c
  rw [List.getElem?_append_right (by omega), show k + i - D.length = i by omega]
  exact h
theorem dynS {r0 x1 h2 D cs : List AC} {k i : Nat} {c : AC} (hk : D.length = k) : aSet (r0, x1, h2, D ++ cs) (8 * (k + i) + 3) c = (r0, x1, h2, D ++ cs.set i c) := by
  unfold aSet
  rw [show (8 * (k + i) + 3) % 8 = 3 by omega, show (8 * (k + i) + 3) / 8 = k + i by omega]
  show (r0, x1, h2, (D ++ cs).set (k + i) c) = _
  rw [List.set_append_right _ _ (by omega), show k + i - D.length = i by omega]
theorem dynN {r0 x1 h2 D cs : List AC} {k i : Nat} (hk : D.length = k) (hi : cs.length = i) : aNew (r0, x1, h2, D ++ cs) = 8 * (k + i) + 3 := by
  unfold aNew
  show 8 * (D ++ cs).length + 3 = _
  rw [List.length_append, hk, hi]
theorem dynP {r0 x1 h2 D cs : List AC} {c : AC} : aPush (r0, x1, h2, D ++ cs) c = (r0, x1, h2, D ++ (cs ++ [c])) := by
  unfold aPush
  show (r0, x1, h2, (D ++ cs) ++ [c]) = _
  rw [List.append_assoc]
theorem r_newD {J : Jb} {ce sl pc : Nat} {lv : List (Option Value)} {st : List Value} {r0 x1 h2 D cs : List AC} {k : Nat} (hk : D.length = k) (i : Nat) (hi : cs.length = i) {ci N index : Nat} {Cn : String} {T : u_T} {ty : Nat → FieldType} (b : FB ci Cn T N ty) (fs : List Value) (hfs : ∀ j, j < N → defaultValue (ty j) = vp_V fs j) (hnr : ∀ sg, fs.map (rv sg) = fs) (hq : Cond.classLink J.1.1.cls index Cn ∈ lw_all) (hin : Cond.instantiable Cn N ∈ lw_all) (hini : Cond.initialized Cn ∈ lw_all) (hd : decode J.1.2.1 pc = .ok (.new index, 3)) (hc : ce + 1 ≤ J.2.2.1) (hs : sl + N ≤ J.2.2.2.1) (kk : Rch J (ce + 1) (sl + N) (pc + 3) lv (.ref (8 * (k + i) + 3) :: st) (r0, x1, h2, D ++ (cs ++ [.inr (ci, fs)]))) : Rch J ce sl pc lv st (r0, x1, h2, D ++ cs) :=
  r_new b fs hfs hnr hq hin hini hd hc hs (by rw [dynN hk hi, dynP]; exact kk)
theorem r_newaD {J : Jb} {ce sl pc : Nat} {lv : List (Option Value)} {st : List Value} {r0 x1 h2 D cs : List AC} {k : Nat} (hk : D.length = k) (i : Nat) (hi : cs.length = i) {n : Int32} (N : Nat) (hq : Cond.arrayClass .int ∈ lw_all) (hd : decode J.1.2.1 pc = .ok (.newarray .int, 2)) (hn : ¬ n < 0) (hN : n.toNatClampNeg = N) (hN2 : N ≤ 1000) (hc : ce + 1 ≤ J.2.2.1) (hs : sl + N ≤ J.2.2.2.1) (kk : Rch J (ce + 1) (sl + N) (pc + 2) lv (.ref (8 * (k + i) + 3) :: st) (r0, x1, h2, D ++ (cs ++ [.inl (.int, N, .inl (fun _ => 0))]))) : Rch J ce sl pc lv (.int n :: st) (r0, x1, h2, D ++ cs) :=
  r_newa_int N hq hd hn hN hN2 hc hs (by rw [dynN hk hi, dynP]; exact kk)
theorem r_newqD_looker {J : Jb} {ce sl pc : Nat} {lv : List (Option Value)} {st : List Value} {r0 x1 h2 D cs : List AC} {k : Nat} (hk : D.length = k) (i : Nat) (hi : cs.length = i) {n : Int32} {index : Nat} (N : Nat) (hq : Cond.classLink J.1.1.cls index "SeenInOrderOfAge$Looker" ∈ lw_all) (hd : decode J.1.2.1 pc = .ok (.anewarray index, 3)) (hn : ¬ n < 0) (hN : n.toNatClampNeg = N) (hN2 : N ≤ 1000) (hc : ce + 1 ≤ J.2.2.1) (hs : sl + N ≤ J.2.2.2.1) (kk : Rch J (ce + 1) (sl + N) (pc + 3) lv (.ref (8 * (k + i) + 3) :: st) (r0, x1, h2, D ++ (cs ++ [.inl (.object "SeenInOrderOfAge$Looker", N, .inr (.inr (.inr (.inr (fun _ => none)))))]))) : Rch J ce sl pc lv (.int n :: st) (r0, x1, h2, D ++ cs) :=
  r_newq_looker N hq hd hn hN hN2 hc hs (by rw [dynN hk hi, dynP]; exact kk)
theorem r_newqD_sheet {J : Jb} {ce sl pc : Nat} {lv : List (Option Value)} {st : List Value} {r0 x1 h2 D cs : List AC} {k : Nat} (hk : D.length = k) (i : Nat) (hi : cs.length = i) {n : Int32} {index : Nat} (N : Nat) (hq : Cond.classLink J.1.1.cls index "SeenInOrderOfAge$Sheet" ∈ lw_all) (hd : decode J.1.2.1 pc = .ok (.anewarray index, 3)) (hn : ¬ n < 0) (hN : n.toNatClampNeg = N) (hN2 : N ≤ 1000) (hc : ce + 1 ≤ J.2.2.1) (hs : sl + N ≤ J.2.2.2.1) (kk : Rch J (ce + 1) (sl + N) (pc + 3) lv (.ref (8 * (k + i) + 3) :: st) (r0, x1, h2, D ++ (cs ++ [.inl (.object "SeenInOrderOfAge$Sheet", N, .inr (.inr (.inr (.inr (fun _ => none)))))]))) : Rch J ce sl pc lv (.int n :: st) (r0, x1, h2, D ++ cs) :=
  r_newq_sheet N hq hd hn hN hN2 hc hs (by rw [dynN hk hi, dynP]; exact kk)
section XX
variable {r0 x1 h2 D : List AC} {k : Nat} {Q : Option Value → AHp → Prop}
theorem pX2_init (hk : D.length = k) (hQ : Q none (r0, x1, h2, D ++ [.inr (2, [.ref (8 * (k + 1) + 3), .int 0]), .inl (.int, 12, .inl (fun _ => -1))])) : AMet mX2_init 2 1 12 [.ref (8 * (k + 0) + 3)] (r0, x1, h2, D ++ [.inr (2, [.null, .int 0])]) Q := by
  refine AMet.ofRch rfl rfl (Nat.le_of_ble_eq_true rfl) ?_
  refine r_aload_n dX2_init_0 rfl ?_
  refine r_objInit q138 dX2_init_1 (Nat.le_of_ble_eq_true rfl) ?_
  refine r_aload_n dX2_init_4 rfl ?_
  refine r_bipush 12 dX2_init_5 (by decide) ?_
  refine r_newaD hk 1 rfl 12 q154 dX2_init_7 (by decide) (by decide) (by decide) (Nat.le_of_ble_eq_true rfl) (Nat.le_of_ble_eq_true rfl) ?_
  show Rch _ _ _ _ _ _ (r0, x1, h2, D ++ [.inr (2, [.null, .int 0]), .inl (.int, 12, .inl (fun _ => 0))])
  refine r_putF bX2 0 (by decide) rfl rfl rfl q142 dX2_init_9 rfl rfl (dynG hk (i := 0) rfl) (Nat.le_of_ble_eq_true rfl) ?_
  rw [dynS hk (i := 0)]
  show Rch _ _ _ _ _ _ (r0, x1, h2, D ++ [.inr (2, [.ref (8 * (k + 1) + 3), .int 0]), .inl (.int, 12, .inl (fun _ => 0))])
  refine r_aload_n dX2_init_12 rfl ?_
  refine r_get bX2 0 (by decide) q142 dX2_init_13 (dynG hk (i := 0) rfl) rfl ?_
  refine r_iconst (-1) dX2_init_16 (by decide) ?_
  refine r_callS (as := [_, _]) okJ0_fill q139 dX2_init_17 (Nat.le_of_ble_eq_true rfl) rfl (Nat.le_of_ble_eq_true rfl) (Nat.le_of_ble_eq_true rfl) (Nat.le_of_ble_eq_true rfl) (pJ0_fill (dynG hk (i := 1) rfl) (by decide) ?_)
  rw [dynS hk (i := 1)]
  show Rch _ _ _ _ _ _ (r0, x1, h2, D ++ [.inr (2, [.ref (8 * (k + 1) + 3), .int 0]), .inl (.int, 12, .inl (fun _ => -1))])
  exact r_vret dX2_init_20 rfl (Nat.le_of_ble_eq_true rfl) (Nat.le_of_ble_eq_true rfl) (hQ)
theorem pX4_init {h : AHp} {a : Nat} (hQ : Q none h) : AMet mX4_init 1 0 0 [.ref a] h Q := by
  refine AMet.ofRch rfl rfl (Nat.le_of_ble_eq_true rfl) ?_
  refine r_aload_n dX4_init_0 rfl ?_
  refine r_objInit q241 dX4_init_1 (Nat.le_of_ble_eq_true rfl) ?_
  exact r_vret dX4_init_4 rfl (Nat.le_of_ble_eq_true rfl) (Nat.le_of_ble_eq_true rfl) (hQ)
theorem win_app {a b c : List AC} {x y : AC} : a ++ [x, y] = (a ++ [x]) ++ [y] := by simp
theorem pX1_init (hk : D.length = k) (hQ : Q none (r0, x1, h2, D ++ [.inr (1, [.ref (8 * (k + 1) + 3), .ref (8 * (k + 3) + 3), .ref (8 * (k + 4) + 3), .ref (8 * (k + 5) + 3), .ref (8 * (k + 6) + 3), .ref (8 * (k + 7) + 3), .ref (8 * (k + 8) + 3), .int 0, .int 0, .int 1]), .inr (2, [.ref (8 * (k + 2) + 3), .int 0]), .inl (.int, 12, .inl (fun _ => -1)), .inl (.object "SeenInOrderOfAge$Looker", 8, .inr (.inr (.inr (.inr (fun _ => none))))), .inl (.int, 8, .inl (fun _ => 0)), .inl (.int, 8, .inl (fun _ => 0)), .inl (.int, 8, .inl (fun _ => 0)), .inl (.int, 8, .inl (fun _ => 0)), .inl (.int, 64, .inl (fun _ => 0))])) : AMet mX1_init 3 8 118 [.ref (8 * (k + 0) + 3)] (r0, x1, h2, D ++ [.inr (1, [.null, .null, .null, .null, .null, .null, .null, .int 0, .int 0, .int 0])]) Q := by
  refine AMet.ofRch rfl rfl (Nat.le_of_ble_eq_true rfl) ?_
  have hk1 : (D ++ [(.inr (1, [.null, .null, .null, .null, .null, .null, .null, .int 0, .int 0, .int 0]) : AC)]).length = k + 1 := by rw [List.length_append, hk]; rfl
  have e1 : D ++ [(.inr (1, [.null, .null, .null, .null, .null, .null, .null, .int 0, .int 0, .int 0]) : AC), .inr (2, [.null, .int 0])] = (D ++ [.inr (1, [.null, .null, .null, .null, .null, .null, .null, .int 0, .int 0, .int 0])]) ++ [.inr (2, [.null, .int 0])] := by rw [List.append_assoc]; rfl
  have e2 : (D ++ [(.inr (1, [.null, .null, .null, .null, .null, .null, .null, .int 0, .int 0, .int 0]) : AC)]) ++ [.inr (2, [.ref (8 * (k + 1 + 1) + 3), .int 0]), .inl (.int, 12, .inl (fun _ => -1))] = D ++ [.inr (1, [.null, .null, .null, .null, .null, .null, .null, .int 0, .int 0, .int 0]), .inr (2, [.ref (8 * (k + 2) + 3), .int 0]), .inl (.int, 12, .inl (fun _ => -1))] := by rw [List.append_assoc]; rfl
  refine r_aload_n dX1_init_0 rfl ?_
  refine r_objInit q132 dX1_init_1 (Nat.le_of_ble_eq_true rfl) ?_
  refine r_aload_n dX1_init_4 rfl ?_
  refine r_newD hk 1 rfl bX2 [.null, .int 0] (by decide) (fun _ => rfl) q133 q134 q85 dX1_init_5 (Nat.le_of_ble_eq_true rfl) (Nat.le_of_ble_eq_true rfl) ?_
  show Rch _ _ _ _ _ _ (r0, x1, h2, D ++ [.inr (1, [.null, .null, .null, .null, .null, .null, .null, .int 0, .int 0, .int 0]), .inr (2, [.null, .int 0])])
  refine r_dup dX1_init_8 rfl ?_
  rw [e1]
  refine r_callI (as := []) okX2_init q135 dX1_init_9 (Nat.le_of_ble_eq_true rfl) rfl (Nat.le_of_ble_eq_true rfl) (Nat.le_of_ble_eq_true rfl) (Nat.le_of_ble_eq_true rfl) (pX2_init hk1 ?_)
  rw [e2]
  refine r_putF bX1 0 (by decide) rfl rfl rfl q157 dX1_init_12 rfl rfl (dynG hk (i := 0) rfl) (Nat.le_of_ble_eq_true rfl) ?_
  rw [dynS hk (i := 0)]
  show Rch _ _ _ _ _ _ (r0, x1, h2, D ++ [.inr (1, [.ref (8 * (k + 1) + 3), .null, .null, .null, .null, .null, .null, .int 0, .int 0, .int 0]), .inr (2, [.ref (8 * (k + 2) + 3), .int 0]), .inl (.int, 12, .inl (fun _ => -1))])
  refine r_aload_n dX1_init_15 rfl ?_
  refine r_bipush 8 dX1_init_16 (by decide) ?_
  refine r_newqD_looker hk 3 rfl 8 q155 dX1_init_18 (by decide) (by decide) (by decide) (Nat.le_of_ble_eq_true rfl) (Nat.le_of_ble_eq_true rfl) ?_
  show Rch _ _ _ _ _ _ (r0, x1, h2, D ++ [.inr (1, [.ref (8 * (k + 1) + 3), .null, .null, .null, .null, .null, .null, .int 0, .int 0, .int 0]), .inr (2, [.ref (8 * (k + 2) + 3), .int 0]), .inl (.int, 12, .inl (fun _ => -1)), .inl (.object "SeenInOrderOfAge$Looker", 8, .inr (.inr (.inr (.inr (fun _ => none)))))])
  refine r_putF bX1 1 (by decide) rfl rfl rfl q161 dX1_init_21 rfl rfl (dynG hk (i := 0) rfl) (Nat.le_of_ble_eq_true rfl) ?_
  rw [dynS hk (i := 0)]
  show Rch _ _ _ _ _ _ (r0, x1, h2, D ++ [.inr (1, [.ref (8 * (k + 1) + 3), .ref (8 * (k + 3) + 3), .null, .null, .null, .null, .null, .int 0, .int 0, .int 0]), .inr (2, [.ref (8 * (k + 2) + 3), .int 0]), .inl (.int, 12, .inl (fun _ => -1)), .inl (.object "SeenInOrderOfAge$Looker", 8, .inr (.inr (.inr (.inr (fun _ => none)))))])
  refine r_aload_n dX1_init_24 rfl ?_
  refine r_bipush 8 dX1_init_25 (by decide) ?_
  refine r_newaD hk 4 rfl 8 q154 dX1_init_27 (by decide) (by decide) (by decide) (Nat.le_of_ble_eq_true rfl) (Nat.le_of_ble_eq_true rfl) ?_
  show Rch _ _ _ _ _ _ (r0, x1, h2, D ++ [.inr (1, [.ref (8 * (k + 1) + 3), .ref (8 * (k + 3) + 3), .null, .null, .null, .null, .null, .int 0, .int 0, .int 0]), .inr (2, [.ref (8 * (k + 2) + 3), .int 0]), .inl (.int, 12, .inl (fun _ => -1)), .inl (.object "SeenInOrderOfAge$Looker", 8, .inr (.inr (.inr (.inr (fun _ => none))))), .inl (.int, 8, .inl (fun _ => 0))])
  refine r_putF bX1 2 (by decide) rfl rfl rfl q164 dX1_init_29 rfl rfl (dynG hk (i := 0) rfl) (Nat.le_of_ble_eq_true rfl) ?_
  rw [dynS hk (i := 0)]
  show Rch _ _ _ _ _ _ (r0, x1, h2, D ++ [.inr (1, [.ref (8 * (k + 1) + 3), .ref (8 * (k + 3) + 3), .ref (8 * (k + 4) + 3), .null, .null, .null, .null, .int 0, .int 0, .int 0]), .inr (2, [.ref (8 * (k + 2) + 3), .int 0]), .inl (.int, 12, .inl (fun _ => -1)), .inl (.object "SeenInOrderOfAge$Looker", 8, .inr (.inr (.inr (.inr (fun _ => none))))), .inl (.int, 8, .inl (fun _ => 0))])
  refine r_aload_n dX1_init_32 rfl ?_
  refine r_bipush 8 dX1_init_33 (by decide) ?_
  refine r_newaD hk 5 rfl 8 q154 dX1_init_35 (by decide) (by decide) (by decide) (Nat.le_of_ble_eq_true rfl) (Nat.le_of_ble_eq_true rfl) ?_
  show Rch _ _ _ _ _ _ (r0, x1, h2, D ++ [.inr (1, [.ref (8 * (k + 1) + 3), .ref (8 * (k + 3) + 3), .ref (8 * (k + 4) + 3), .null, .null, .null, .null, .int 0, .int 0, .int 0]), .inr (2, [.ref (8 * (k + 2) + 3), .int 0]), .inl (.int, 12, .inl (fun _ => -1)), .inl (.object "SeenInOrderOfAge$Looker", 8, .inr (.inr (.inr (.inr (fun _ => none))))), .inl (.int, 8, .inl (fun _ => 0)), .inl (.int, 8, .inl (fun _ => 0))])
  refine r_putF bX1 3 (by decide) rfl rfl rfl q166 dX1_init_37 rfl rfl (dynG hk (i := 0) rfl) (Nat.le_of_ble_eq_true rfl) ?_
  rw [dynS hk (i := 0)]
  show Rch _ _ _ _ _ _ (r0, x1, h2, D ++ [.inr (1, [.ref (8 * (k + 1) + 3), .ref (8 * (k + 3) + 3), .ref (8 * (k + 4) + 3), .ref (8 * (k + 5) + 3), .null, .null, .null, .int 0, .int 0, .int 0]), .inr (2, [.ref (8 * (k + 2) + 3), .int 0]), .inl (.int, 12, .inl (fun _ => -1)), .inl (.object "SeenInOrderOfAge$Looker", 8, .inr (.inr (.inr (.inr (fun _ => none))))), .inl (.int, 8, .inl (fun _ => 0)), .inl (.int, 8, .inl (fun _ => 0))])
  refine r_aload_n dX1_init_40 rfl ?_
  refine r_bipush 8 dX1_init_41 (by decide) ?_
  refine r_newaD hk 6 rfl 8 q154 dX1_init_43 (by decide) (by decide) (by decide) (Nat.le_of_ble_eq_true rfl) (Nat.le_of_ble_eq_true rfl) ?_
  show Rch _ _ _ _ _ _ (r0, x1, h2, D ++ [.inr (1, [.ref (8 * (k + 1) + 3), .ref (8 * (k + 3) + 3), .ref (8 * (k + 4) + 3), .ref (8 * (k + 5) + 3), .null, .null, .null, .int 0, .int 0, .int 0]), .inr (2, [.ref (8 * (k + 2) + 3), .int 0]), .inl (.int, 12, .inl (fun _ => -1)), .inl (.object "SeenInOrderOfAge$Looker", 8, .inr (.inr (.inr (.inr (fun _ => none))))), .inl (.int, 8, .inl (fun _ => 0)), .inl (.int, 8, .inl (fun _ => 0)), .inl (.int, 8, .inl (fun _ => 0))])
  refine r_putF bX1 4 (by decide) rfl rfl rfl q169 dX1_init_45 rfl rfl (dynG hk (i := 0) rfl) (Nat.le_of_ble_eq_true rfl) ?_
  rw [dynS hk (i := 0)]
  show Rch _ _ _ _ _ _ (r0, x1, h2, D ++ [.inr (1, [.ref (8 * (k + 1) + 3), .ref (8 * (k + 3) + 3), .ref (8 * (k + 4) + 3), .ref (8 * (k + 5) + 3), .ref (8 * (k + 6) + 3), .null, .null, .int 0, .int 0, .int 0]), .inr (2, [.ref (8 * (k + 2) + 3), .int 0]), .inl (.int, 12, .inl (fun _ => -1)), .inl (.object "SeenInOrderOfAge$Looker", 8, .inr (.inr (.inr (.inr (fun _ => none))))), .inl (.int, 8, .inl (fun _ => 0)), .inl (.int, 8, .inl (fun _ => 0)), .inl (.int, 8, .inl (fun _ => 0))])
  refine r_aload_n dX1_init_48 rfl ?_
  refine r_bipush 8 dX1_init_49 (by decide) ?_
  refine r_newaD hk 7 rfl 8 q154 dX1_init_51 (by decide) (by decide) (by decide) (Nat.le_of_ble_eq_true rfl) (Nat.le_of_ble_eq_true rfl) ?_
  show Rch _ _ _ _ _ _ (r0, x1, h2, D ++ [.inr (1, [.ref (8 * (k + 1) + 3), .ref (8 * (k + 3) + 3), .ref (8 * (k + 4) + 3), .ref (8 * (k + 5) + 3), .ref (8 * (k + 6) + 3), .null, .null, .int 0, .int 0, .int 0]), .inr (2, [.ref (8 * (k + 2) + 3), .int 0]), .inl (.int, 12, .inl (fun _ => -1)), .inl (.object "SeenInOrderOfAge$Looker", 8, .inr (.inr (.inr (.inr (fun _ => none))))), .inl (.int, 8, .inl (fun _ => 0)), .inl (.int, 8, .inl (fun _ => 0)), .inl (.int, 8, .inl (fun _ => 0)), .inl (.int, 8, .inl (fun _ => 0))])
  refine r_putF bX1 5 (by decide) rfl rfl rfl q172 dX1_init_53 rfl rfl (dynG hk (i := 0) rfl) (Nat.le_of_ble_eq_true rfl) ?_
  rw [dynS hk (i := 0)]
  show Rch _ _ _ _ _ _ (r0, x1, h2, D ++ [.inr (1, [.ref (8 * (k + 1) + 3), .ref (8 * (k + 3) + 3), .ref (8 * (k + 4) + 3), .ref (8 * (k + 5) + 3), .ref (8 * (k + 6) + 3), .ref (8 * (k + 7) + 3), .null, .int 0, .int 0, .int 0]), .inr (2, [.ref (8 * (k + 2) + 3), .int 0]), .inl (.int, 12, .inl (fun _ => -1)), .inl (.object "SeenInOrderOfAge$Looker", 8, .inr (.inr (.inr (.inr (fun _ => none))))), .inl (.int, 8, .inl (fun _ => 0)), .inl (.int, 8, .inl (fun _ => 0)), .inl (.int, 8, .inl (fun _ => 0)), .inl (.int, 8, .inl (fun _ => 0))])
  refine r_aload_n dX1_init_56 rfl ?_
  refine r_bipush 64 dX1_init_57 (by decide) ?_
  refine r_newaD hk 8 rfl 64 q154 dX1_init_59 (by decide) (by decide) (by decide) (Nat.le_of_ble_eq_true rfl) (Nat.le_of_ble_eq_true rfl) ?_
  show Rch _ _ _ _ _ _ (r0, x1, h2, D ++ [.inr (1, [.ref (8 * (k + 1) + 3), .ref (8 * (k + 3) + 3), .ref (8 * (k + 4) + 3), .ref (8 * (k + 5) + 3), .ref (8 * (k + 6) + 3), .ref (8 * (k + 7) + 3), .null, .int 0, .int 0, .int 0]), .inr (2, [.ref (8 * (k + 2) + 3), .int 0]), .inl (.int, 12, .inl (fun _ => -1)), .inl (.object "SeenInOrderOfAge$Looker", 8, .inr (.inr (.inr (.inr (fun _ => none))))), .inl (.int, 8, .inl (fun _ => 0)), .inl (.int, 8, .inl (fun _ => 0)), .inl (.int, 8, .inl (fun _ => 0)), .inl (.int, 8, .inl (fun _ => 0)), .inl (.int, 64, .inl (fun _ => 0))])
  refine r_putF bX1 6 (by decide) rfl rfl rfl q175 dX1_init_61 rfl rfl (dynG hk (i := 0) rfl) (Nat.le_of_ble_eq_true rfl) ?_
  rw [dynS hk (i := 0)]
  show Rch _ _ _ _ _ _ (r0, x1, h2, D ++ [.inr (1, [.ref (8 * (k + 1) + 3), .ref (8 * (k + 3) + 3), .ref (8 * (k + 4) + 3), .ref (8 * (k + 5) + 3), .ref (8 * (k + 6) + 3), .ref (8 * (k + 7) + 3), .ref (8 * (k + 8) + 3), .int 0, .int 0, .int 0]), .inr (2, [.ref (8 * (k + 2) + 3), .int 0]), .inl (.int, 12, .inl (fun _ => -1)), .inl (.object "SeenInOrderOfAge$Looker", 8, .inr (.inr (.inr (.inr (fun _ => none))))), .inl (.int, 8, .inl (fun _ => 0)), .inl (.int, 8, .inl (fun _ => 0)), .inl (.int, 8, .inl (fun _ => 0)), .inl (.int, 8, .inl (fun _ => 0)), .inl (.int, 64, .inl (fun _ => 0))])
  refine r_aload_n dX1_init_64 rfl ?_
  refine r_iconst 1 dX1_init_65 (by decide) ?_
  refine r_put bX1 9 (by decide) rfl q182 dX1_init_66 rfl rfl (dynG hk (i := 0) rfl) (Nat.le_of_ble_eq_true rfl) ?_
  rw [dynS hk (i := 0)]
  show Rch _ _ _ _ _ _ (r0, x1, h2, D ++ [.inr (1, [.ref (8 * (k + 1) + 3), .ref (8 * (k + 3) + 3), .ref (8 * (k + 4) + 3), .ref (8 * (k + 5) + 3), .ref (8 * (k + 6) + 3), .ref (8 * (k + 7) + 3), .ref (8 * (k + 8) + 3), .int 0, .int 0, .int 1]), .inr (2, [.ref (8 * (k + 2) + 3), .int 0]), .inl (.int, 12, .inl (fun _ => -1)), .inl (.object "SeenInOrderOfAge$Looker", 8, .inr (.inr (.inr (.inr (fun _ => none))))), .inl (.int, 8, .inl (fun _ => 0)), .inl (.int, 8, .inl (fun _ => 0)), .inl (.int, 8, .inl (fun _ => 0)), .inl (.int, 8, .inl (fun _ => 0)), .inl (.int, 64, .inl (fun _ => 0))])
  exact r_vret dX1_init_69 rfl (Nat.le_of_ble_eq_true rfl) (Nat.le_of_ble_eq_true rfl) (hQ)
end XX
