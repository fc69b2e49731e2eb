set_option maxRecDepth 100000
/-! calls of what may be overridden -/
theorem lw_O {own : String} {idx : Nat} {C : String} {x y : MethodName} {b : ByteArray} {L : Nat} {r : Option FieldType} (h1 : Cond.methodLink own idx x ∈ lw_all) (h2 : Cond.sameMethod x.cls x.cls x.name x.desc ∈ lw_all) (h3 : Cond.instanceMethod x ∈ lw_all) (h4 : Cond.selects C x y ∈ lw_all) (h5 : Cond.instanceMethod y ∈ lw_all) (h6 : Cond.initialized y.cls ∈ lw_all) (h7 : Cond.code y b L r ∈ lw_all) : GoodIn lw_all (va_wsO own idx C x.cls x y (ws_ y b L r)) := by
  refine lw_app ?_ (lw_meth h7)
  intro w hw
  simp only [List.mem_cons, List.not_mem_nil, or_false] at hw
  rcases hw with e | e | e | e | e | e
  · rw [e]; exact h1
  · rw [e]; exact h2
  · rw [e]; exact h3
  · rw [e]; exact h4
  · rw [e]; exact h5
  · rw [e]; exact h6
theorem r_callO {J : Jb} {ce sl pc : Nat} {lv : List (Option Value)} {st : List Value} {h : AHp} {M : MI} {d mc ms n index : Nat} {as : List Value} {ci a : Nat} {fs : List Value} {N : Nat} {Cn : String} {T : u_T} {ty : Nat → FieldType} {x : MethodName} {b0 : ByteArray} {m0 : Nat} {r0 : Option FieldType} (ok : MkC M n) (hi : Cond.instanceMethod M.1 ∈ lw_all) (hsm : Cond.sameMethod x.cls x.cls x.name x.desc ∈ lw_all) (hxi : Cond.instanceMethod x ∈ lw_all) (hx0 : Cond.code x b0 m0 r0 ∈ lw_all) (hsel : Cond.selects Cn x M.1 ∈ lw_all) (hxd : x.cls ≠ "java/lang/invoke/MethodHandle" ∧ x.cls ≠ "java/lang/invoke/VarHandle" ∧ (parseMethodDescriptor x.desc).map (fun d => d.parameters.length) = some n) (b : FB ci Cn T N ty) (hg : aGet h a = some (.inr (ci, fs))) (hq : Cond.methodLink J.1.1.cls index x ∈ lw_all) (hd : decode J.1.2.1 pc = .ok (.invokevirtual index, 3)) (hdp : d + 1 ≤ J.2.1) (hn : as.length = n) (hcat : (st.map fun v => v.category).sum ≤ 8) (hc : ce + mc ≤ J.2.2.1) (hs : sl + ms ≤ J.2.2.2.1) (hM : AMet M d mc ms (.ref a :: as) h (fun r h' => Rch J (ce + mc) (sl + ms) (pc + 3) lv (r.toList ++ st) h')) : Rch J ce sl pc lv (as.reverse ++ .ref a :: st) h := by
  intro l G sg R p e s m args below meth c H locs ls hR C hl hH hS
  obtain ⟨q0, e1, -⟩ := wso_at (G := G) (sg := sg) (show kn (.inr (ci, fs)) = true from b.2.2.2.2) hg
  refine Rch.back (st := st) (a := (Value.ref (sg a) :: as.map (rv sg)).toArray) (mc := mc) (ms := ms) hR C hl hS ?_
  exact va_runU (C := Cn) (owner := x.cls) (As := as.map (rv sg)) (rest := st.map (rv sg)) ⟨C.1, C.2.1, C.2.2.2.1, C.2.2.2.2.1, C.2.2.2.2.2.1⟩ (hM l G sg C.2.2.2.2.2.2.2.2.2.2.2) (va_cwO n C.2.2.2.2.2.1 (lw_O hq hsm hxi hsel hi ok.2.1 ok.1) rfl rfl rfl hx0 hxd (rmD_fits hR hdp ok.2.2.2)) ⟨Pm.blind, va_recv C.2.2.2.2.2.2.2.2.1.1 hH.1 b.1 e1, fun U hU hW => ⟨rfl, C.2.2.2.2.2.2.2.2.1.next hW C.2.2.2.2.2.2.2.2.2.1 (by rw [hU]; exact hS), by rw [hU]; exact hH.2.2.1, by rw [hU]; exact hH⟩⟩ rfl (by simpa using hn) hl.1 (by simp [rv]) (lv_room (by rw [cat_map]; exact hcat)) hd ⟨Nat.le_trans hc hR.2.2.1, Nat.le_trans hs hR.2.2.2⟩
theorem lw_P {own : String} {idx : Nat} {y : MethodName} {b : ByteArray} {L : Nat} {r : Option FieldType} (h1 : Cond.methodLink own idx y ∈ lw_all) (h2 : Cond.sameMethod y.cls y.cls y.name y.desc ∈ lw_all) (h3 : Cond.superclass own y.cls ∈ lw_all) (h4 : Cond.instanceMethod y ∈ lw_all) (h5 : Cond.initialized y.cls ∈ lw_all) (h6 : Cond.code y b L r ∈ lw_all) : GoodIn lw_all (va_wsSU own idx y (ws_ y b L r)) := by
  refine lw_app ?_ (lw_meth h6)
  intro w hw
  simp only [List.mem_cons, List.not_mem_nil, or_false] at hw
  rcases hw with e | e | e | e | e
  · rw [e]; exact h1
  · rw [e]; exact h2
  · rw [e]; exact h3
  · rw [e]; exact h4
  · rw [e]; exact h5
/-- super.m(..) -/
theorem r_callP {J : Jb} {ce sl pc : Nat} {lv : List (Option Value)} {st : List Value} {h : AHp} {M : MI} {d mc ms n index : Nat} {as : List Value} {ci a : Nat} {fs : List Value} {N : Nat} {Cn : String} {T : u_T} {ty : Nat → FieldType} (ok : MkC M n) (hi : Cond.instanceMethod M.1 ∈ lw_all) (hsm : Cond.sameMethod M.1.cls M.1.cls M.1.name M.1.desc ∈ lw_all) (hsu : Cond.superclass J.1.1.cls M.1.cls ∈ lw_all) (hni : M.1.name ≠ "<init>") (b : FB ci Cn T N ty) (hg : aGet h a = some (.inr (ci, fs))) (hq : Cond.methodLink J.1.1.cls index M.1 ∈ lw_all) (hd : decode J.1.2.1 pc = .ok (.invokespecial index, 3)) (hdp : d + 1 ≤ J.2.1) (hn : as.length = n) (hcat : (st.map fun v => v.category).sum ≤ 8) (hc : ce + mc ≤ J.2.2.1) (hs : sl + ms ≤ J.2.2.2.1) (hM : AMet M d mc ms (.ref a :: as) h (fun r h' => Rch J (ce + mc) (sl + ms) (pc + 3) lv (r.toList ++ st) h')) : Rch J ce sl pc lv (as.reverse ++ .ref a :: st) h := by
  intro l G sg R p e s m args below meth c H locs ls hR C hl hH hS
  obtain ⟨q0, e1, -⟩ := wso_at (G := G) (sg := sg) (show kn (.inr (ci, fs)) = true from b.2.2.2.2) hg
  refine Rch.back (st := st) (a := (Value.ref (sg a) :: as.map (rv sg)).toArray) (mc := mc) (ms := ms) hR C hl hS ?_
  exact va_runSU (C := Cn) (As := as.map (rv sg)) (rest := st.map (rv sg)) (C.2.2.2.2.2.2.2.2.1.1.1 _ _ b.1).2 ⟨C.1, C.2.1, C.2.2.2.1, C.2.2.2.2.1, C.2.2.2.2.2.1⟩ (hM l G sg C.2.2.2.2.2.2.2.2.2.2.2) (va_cwSU n C.2.2.2.2.2.1 (lw_P hq hsm hsu hi ok.2.1 ok.1) rfl rfl rfl ⟨hni, ok.2.2.1.2.2⟩ (rmD_fits hR hdp ok.2.2.2)) ⟨Pm.blind, va_recv C.2.2.2.2.2.2.2.2.1.1 hH.1 b.1 e1, fun U hU hW => ⟨rfl, C.2.2.2.2.2.2.2.2.1.next hW C.2.2.2.2.2.2.2.2.2.1 (by rw [hU]; exact hS), by rw [hU]; exact hH.2.2.1, by rw [hU]; exact hH⟩⟩ rfl (by simpa using hn) hl.1 (by simp [rv]) (lv_room (by rw [cat_map]; exact hcat)) hd ⟨Nat.le_trans hc hR.2.2.1, Nat.le_trans hs hR.2.2.2⟩
