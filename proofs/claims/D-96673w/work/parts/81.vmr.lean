set_option maxRecDepth 100000
/-! the machine's own exceptions as rows -/
abbrev oq : AC := .inr (99, [])
def thH (h : AHp) : AHp := aPush (aPush (aPush h oq) oq) oq
def thA (h : AHp) : Nat := 8 * (h.2.2.2.length + 2) + 3
theorem Hd.thrown {G : GX} {sg : Nat → Nat} {h : AHp} {H H' : Heap} (hH : Hd G sg h H) (hz : H'.size = H.size + 3) (hk : ∀ q, q < H.size → H'[q]? = H[q]?) : Hd G sg (thH h) H' := by
  have e : wso G sg (thH h) = wso G sg h := by unfold thH; rw [wso_opq rfl, wso_opq rfl, wso_opq rfl]
  refine ⟨?_, ?_, ?_, fun i => ?_, hH.2.2.2.2⟩
  · rw [e]
    intro k q hq
    exact (hH.1 k q hq).kept (hk q.1 (hH.1 k q hq).lt)
  · rw [e]; exact hH.2.1
  · rw [hz]; exact Nat.le_trans hH.2.2.1 (Nat.le_add_right _ _)
  · have := hH.2.2.2.1 (3 + i)
    have e2 : (thH h).2.2.2.length = h.2.2.2.length + 3 := by simp [thH, aPush]
    rw [e2, hz, Nat.add_assoc, Nat.add_assoc]
    exact this
def VxOk (cls : String) (names : List String) (is : List Nat) : Prop := Bundle.messageArmAtoms cls names = is.map atm ∧ is.all (fun i => i == 9000 || (i == 9001 || tmW (atm i))) = true ∧ Bundle.fit cls = true ∧ (∀ n ∈ names, Bundle.fit n = true) ∧ (cls == "java/lang/StackOverflowError") = false ∧ (cls == "java/lang/OutOfMemoryError") = false ∧ names.length ≤ 3
theorem vm_thrown {J : Jb} {ce sl pc nb : Nat} {lv : List (Option Value)} {h : AHp} {cls text : String} {names : List String} {is : List Nat} (ok : VxOk cls names is) {l : Launch} {G : GX} {sg : Nat → Nat} {R : Room} {p : Program} {e : Env} {s : State} {m : MethodId} {args : Array Value} {below : List Frame} {meth : Method} {c : Code} {H : Heap} {locs : List Loc} {ls : Array Slot} {stk : List Value}
    (hR : RmOk R J.2.1 J.2.2.1 J.2.2.2.1) (C : Cx J.1 G l p s m args meth c) (hl : LvH sg ls J.1.2.2.1 lv) (hH : Hd G sg h H) (hS : va_S (gA G) s.heap H locs) (hcat : (stk.map fun v => v.category).sum ≤ 100)
    (htext : (text == notModelled) = false) (hb : (stringBytes (stringToUtf16 text)).size ≤ nb) (hnb : nb ≤ 100000) (hc : ce + 3 ≤ J.2.2.1) (hs : sl + (nb + 10) ≤ J.2.2.2.1) (k : RT J (ce + 3) (sl + (nb + 10)) pc lv (thA h) cls (thH h))
    {T : State} (hT : T.heap = H) (X : Stand p l e R s m args below meth c T locs ce sl) : ∃ t, Steps p.tables e below ((T.setTop (F0 m pc ls stk)).pushFrame (.throwNew cls (some text) none)) t ∧ MQX below G sg J.2.2.2.2 s J.2.2.1 J.2.2.2.1 t := by
  have ho : Old G s s.heap := C.2.2.2.2.2.2.2.2.1.2.2.2.2.2.2.2
  have hfl : l.flags = flags0 := C.2.2.2.2.2.2.2.2.2.2.2
  have hz : va_Zq "java/lang/Throwable" "UNASSIGNED_STACK" "[Ljava/lang/StackTraceElement;" (gA G) s s.heap := (zq_old (args := args) ho (List.mem_of_getElem? (i := 302) rfl) (lw_all_tbl q90) (nar ho.2.2.2 [false, false, false, false, false, false, false, false, true, false] rfl)).1
  obtain ⟨h1, h2, h3, h4, h5, h6, h7⟩ := ok
  obtain ⟨U, L, X', w1, w2, w3, w4, w5⟩ := noteMsg (base := G.2.2.1) (cls := cls) (names := names) (text := text) X C.1 (Launch.traces_off hfl X.admits) h3 h4 h5 h6 (atm_all ho h1 h2) hz hS.2.2 htext (by rw [Launch.admits_arrayLengthLimit X.admits]; omega) (by rw [Launch.admits_maxHeapBytes X.admits]; show ¬ _ * 1 > _; omega) (g := F0 m pc ls stk) rfl (hl.1.trans C.2.2.2.1.symm) (by have := hR.1; omega) (by
    have e1 : (F0 m pc ls stk).monitorRoom = 0 := rfl
    have := hR.2.1
    have e2 : ((F0 m pc ls stk).stack.map fun v => v.category).sum ≤ 100 := hcat
    omega) (by omega) (Nat.le_trans hc hR.2.2.1) (Nat.le_trans (by omega) hR.2.2.2)
  have X2 := stand_widen X' (Nat.le_refl _) (show sl + ((stringBytes (stringToUtf16 text)).size + 4 + 6) ≤ sl + (nb + 10) by omega)
  rw [hT] at w1 w2 w3 w4 w5
  have ea : sg (thA h) = H.size + 2 := hH.2.2.2.1 2
  obtain ⟨t, a1, b1⟩ := k l G sg R p e s m args below meth c U.heap (locs ++ L) ls stk hR C hl (hH.thrown w2 w3) ⟨by rw [w2]; exact Nat.le_trans hS.1 (Nat.le_add_right _ _), fun q g1 g2 => (w3 q (Nat.lt_of_lt_of_le g1 hS.1)).trans (hS.2.1 q g1 g2), fun q hq => by
    rcases List.mem_append.mp hq with g | g
    · exact hS.2.2 q g
    · show G.2.2.1 ≤ q.base
      rw [w1 q g]
      exact Nat.le_trans hH.2.2.1 (Nat.le_add_right _ _)⟩ (by rw [ea]; exact w4) U rfl X2
  rw [ea] at a1
  exact ⟨t, w5 t a1, b1⟩
def ix_nas : List Nat := [90, 366, 306, 328, 331, 333, 367, 368, 125, 126, 300, 305, 329, 336, 360, 337, 361, 338, 362, 301, 302, 303, 304, 363, 298, 299, 335, 363, 289, 290, 291, 292, 354, 292, 293, 294, 295, 356, 295, 296, 297, 298, 358, 94, 369, 370, 371, 373, 372, 374, 93, 288, 352, 359, 313, 343, 345, 349, 341, 9000, 9001, 334, 364, 339]
theorem vx_nas : VxOk "java/lang/NegativeArraySizeException" ["java/lang/RuntimeException", "java/lang/Exception"] ix_nas := ⟨by decide +kernel, by decide +kernel, by decide +kernel, by decide +kernel, by decide +kernel, by decide +kernel, by decide⟩
def ix_aio : List Nat := [90, 366, 306, 328, 331, 333, 367, 368, 125, 126, 300, 305, 329, 336, 360, 337, 361, 338, 362, 301, 302, 303, 304, 363, 298, 299, 335, 363, 398, 399, 400, 401, 413, 401, 402, 403, 292, 354, 292, 293, 294, 295, 356, 295, 296, 297, 298, 358, 94, 369, 370, 371, 373, 372, 374, 96, 397, 411, 414, 310, 406, 407, 409, 405, 9000, 9001, 334, 364, 404]
theorem vx_aio : VxOk "java/lang/ArrayIndexOutOfBoundsException" ["java/lang/IndexOutOfBoundsException", "java/lang/RuntimeException", "java/lang/Exception"] ix_aio := ⟨by decide +kernel, by decide +kernel, by decide +kernel, by decide +kernel, by decide +kernel, by decide +kernel, by decide⟩
def ix_cce : List Nat := [90, 366, 306, 328, 331, 333, 367, 368, 125, 126, 300, 305, 329, 336, 360, 337, 361, 338, 362, 301, 302, 303, 304, 363, 298, 299, 335, 363, 530, 531, 532, 292, 354, 292, 293, 294, 295, 356, 295, 296, 297, 298, 358, 94, 369, 370, 371, 373, 372, 374, 101, 529, 540, 541, 312, 535, 536, 538, 534, 9000, 9001, 334, 364, 533]
theorem vx_cce : VxOk "java/lang/ClassCastException" ["java/lang/RuntimeException", "java/lang/Exception"] ix_cce := ⟨by decide +kernel, by decide +kernel, by decide +kernel, by decide +kernel, by decide +kernel, by decide +kernel, by decide⟩
def ix_ase : List Nat := [90, 366, 306, 328, 331, 333, 367, 368, 125, 126, 300, 305, 329, 336, 360, 337, 361, 338, 362, 301, 302, 303, 304, 363, 298, 299, 335, 363, 488, 489, 490, 292, 354, 292, 293, 294, 295, 356, 295, 296, 297, 298, 358, 94, 369, 370, 371, 373, 372, 374, 99, 487, 498, 499, 311, 493, 494, 496, 492, 9000, 9001, 334, 364, 491]
theorem vx_ase : VxOk "java/lang/ArrayStoreException" ["java/lang/RuntimeException", "java/lang/Exception"] ix_ase := ⟨by decide +kernel, by decide +kernel, by decide +kernel, by decide +kernel, by decide +kernel, by decide +kernel, by decide⟩
theorem txt_mod (n : Int32) : (toString n == notModelled) = false := by
  rw [beq_eq_false_iff_ne]
  intro h
  have h1 := int32_print n
  rw [h] at h1
  exact absurd h1 (by decide +kernel)
theorem vp_out {j : Int32} {N : Nat} (h : ¬ vp_in j N) : j < 0 ∨ N ≤ j.toNatClampNeg := Decidable.not_not.mp h
theorem arr_at {M : MI} {G : GX} {l : Launch} {p : Program} {s : State} {m : MethodId} {args : Array Value} {meth : Method} {c : Code} {sg : Nat → Nat} {h : AHp} {H : Heap} {a N : Nat} {ty : FieldType} {x : (Nat → Int32) ⊕ (Nat → Int64) ⊕ (Nat → UInt32) ⊕ (Nat → UInt64) ⊕ (Nat → Option Nat)} (C : Cx M G l p s m args meth c) (hH : Hd G sg h H) (hty : ty ∈ tyL) (hg : aGet h a = some (.inl (ty, N, x))) : ∃ cl9 : Cell, H[sg a]? = some cl9 ∧ s.isArrayOf cl9 ty ∧ cl9.slots.size = N := by
  obtain ⟨q0, e1, -⟩ := wso_at (G := G) (sg := sg) rfl hg
  obtain ⟨t0, ht⟩ := List.mem_iff_getElem?.mp hty
  have hK := (C.2.2.2.2.2.2.2.2.1.1.2 t0 (G.2.1 ty, ty) (by simp [gT, ht])).1
  have hP := hH.1 q0 _ e1
  rcases x with f | f | f | f | f
  · exact ⟨_, hP, hK N (fun j => .int (f j)), arrV_size _ _ _⟩
  · exact ⟨_, hP, hK N (fun j => .long (f j)), arrV_size _ _ _⟩
  · exact ⟨_, hP, hK N (fun j => .float (f j)), arrV_size _ _ _⟩
  · exact ⟨_, hP, hK N (fun j => .double (f j)), arrV_size _ _ _⟩
  · exact ⟨_, hP, hK N (fun j => va_rf ((f j).map sg)), arrV_size _ _ _⟩
theorem catr (sg : Nat → Nat) (st : List Value) (h : (st.map fun v => v.category).sum ≤ 100) : ((st.map (rv sg)).map fun v => v.category).sum ≤ 100 := by rw [cat_map]; exact h
theorem r_newneg {J : Jb} {ce sl pc : Nat} {lv : List (Option Value)} {st : List Value} {h : AHp} {n : Int32} {at_ : ArrayType} (hd : decode J.1.2.1 pc = .ok (.newarray at_, 2)) (hn : n < 0) (hcat : (st.map fun v => v.category).sum ≤ 100) (hc : ce + 3 ≤ J.2.2.1) (hs : sl + (44 + 10) ≤ J.2.2.2.1) (k : RT J (ce + 3) (sl + (44 + 10)) pc lv (thA h) "java/lang/NegativeArraySizeException" (thH h)) : Rch J ce sl pc lv (.int n :: st) h := by
  intro l G sg R p e s m args below meth c H locs ls hR C hl hH hS T hT X
  obtain ⟨t, a1, b1⟩ := vm_thrown (text := toString n) (nb := 44) (stk := st.map (rv sg)) vx_nas hR C hl hH hS (catr sg st hcat) (txt_mod n) (Nat.le_trans (stringBytes_size_le _) (by have h1 := utf16_size_le (toString n); have h2 := int32_print n; omega)) (by omega) hc hs k hT X
  exact ⟨t, X.newarrayNegative C.1 (g := F0 m pc ls ((.int n :: st).map (rv sg))) rfl hn (rest := st.map (rv sg)) rfl (by rw [C.2.1]; exact hd) t a1, b1⟩
theorem r_iaload_out {J : Jb} {ce sl pc : Nat} {lv : List (Option Value)} {st : List Value} {h : AHp} {a N : Nat} {j : Int32} {ty : FieldType} {x : (Nat → Int32) ⊕ (Nat → Int64) ⊕ (Nat → UInt32) ⊕ (Nat → UInt64) ⊕ (Nat → Option Nat)} (hd : decode J.1.2.1 pc = .ok (.iaload, 1)) (hty : ty ∈ tyL) (hg : aGet h a = some (.inl (ty, N, x))) (hN : N < 2 ^ 31) (hj : ¬ vp_in j N) (hcat : (st.map fun v => v.category).sum ≤ 100) (hc : ce + 3 ≤ J.2.2.1) (hs : sl + (212 + 10) ≤ J.2.2.2.1) (k : RT J (ce + 3) (sl + (212 + 10)) pc lv (thA h) "java/lang/ArrayIndexOutOfBoundsException" (thH h)) : Rch J ce sl pc lv (.int j :: .ref a :: st) h := by
  intro l G sg R p e s m args below meth c H locs ls hR C hl hH hS T hT X
  obtain ⟨cl9, g1, g2, g3⟩ := arr_at C hH hty hg
  obtain ⟨t, a1, b1⟩ := vm_thrown (nb := 212) (stk := st.map (rv sg)) vx_aio hR C hl hH hS (catr sg st hcat) (index_text_modelled j cl9.slots.size) (index_text_bytes j (by rw [g3]; exact hN)) (by omega) hc hs k hT X
  exact ⟨t, X.ialoadOut C.1 (ty := ty) (by rw [hT]; exact g1) g2 (by rw [g3]; exact vp_out hj) (g := F0 m pc ls ((.int j :: .ref a :: st).map (rv sg))) rfl (rest := st.map (rv sg)) rfl (by rw [C.2.1]; exact hd) t a1, b1⟩
theorem r_laload_out {J : Jb} {ce sl pc : Nat} {lv : List (Option Value)} {st : List Value} {h : AHp} {a N : Nat} {j : Int32} {ty : FieldType} {x : (Nat → Int32) ⊕ (Nat → Int64) ⊕ (Nat → UInt32) ⊕ (Nat → UInt64) ⊕ (Nat → Option Nat)} (hd : decode J.1.2.1 pc = .ok (.laload, 1)) (hty : ty ∈ tyL) (hg : aGet h a = some (.inl (ty, N, x))) (hN : N < 2 ^ 31) (hj : ¬ vp_in j N) (hcat : (st.map fun v => v.category).sum ≤ 100) (hc : ce + 3 ≤ J.2.2.1) (hs : sl + (212 + 10) ≤ J.2.2.2.1) (k : RT J (ce + 3) (sl + (212 + 10)) pc lv (thA h) "java/lang/ArrayIndexOutOfBoundsException" (thH h)) : Rch J ce sl pc lv (.int j :: .ref a :: st) h := by
  intro l G sg R p e s m args below meth c H locs ls hR C hl hH hS T hT X
  obtain ⟨cl9, g1, g2, g3⟩ := arr_at C hH hty hg
  obtain ⟨t, a1, b1⟩ := vm_thrown (nb := 212) (stk := st.map (rv sg)) vx_aio hR C hl hH hS (catr sg st hcat) (index_text_modelled j cl9.slots.size) (index_text_bytes j (by rw [g3]; exact hN)) (by omega) hc hs k hT X
  exact ⟨t, X.laloadOut C.1 (ty := ty) (by rw [hT]; exact g1) g2 (by rw [g3]; exact vp_out hj) (g := F0 m pc ls ((.int j :: .ref a :: st).map (rv sg))) rfl (rest := st.map (rv sg)) rfl (by rw [C.2.1]; exact hd) t a1, b1⟩
theorem r_baload_out {J : Jb} {ce sl pc : Nat} {lv : List (Option Value)} {st : List Value} {h : AHp} {a N : Nat} {j : Int32} {ty : FieldType} {x : (Nat → Int32) ⊕ (Nat → Int64) ⊕ (Nat → UInt32) ⊕ (Nat → UInt64) ⊕ (Nat → Option Nat)} (hd : decode J.1.2.1 pc = .ok (.baload, 1)) (hty : ty ∈ tyL) (hg : aGet h a = some (.inl (ty, N, x))) (hN : N < 2 ^ 31) (hj : ¬ vp_in j N) (hcat : (st.map fun v => v.category).sum ≤ 100) (hc : ce + 3 ≤ J.2.2.1) (hs : sl + (212 + 10) ≤ J.2.2.2.1) (k : RT J (ce + 3) (sl + (212 + 10)) pc lv (thA h) "java/lang/ArrayIndexOutOfBoundsException" (thH h)) : Rch J ce sl pc lv (.int j :: .ref a :: st) h := by
  intro l G sg R p e s m args below meth c H locs ls hR C hl hH hS T hT X
  obtain ⟨cl9, g1, g2, g3⟩ := arr_at C hH hty hg
  obtain ⟨t, a1, b1⟩ := vm_thrown (nb := 212) (stk := st.map (rv sg)) vx_aio hR C hl hH hS (catr sg st hcat) (index_text_modelled j cl9.slots.size) (index_text_bytes j (by rw [g3]; exact hN)) (by omega) hc hs k hT X
  exact ⟨t, X.baloadOut C.1 (ty := ty) (by rw [hT]; exact g1) g2 (by rw [g3]; exact vp_out hj) (g := F0 m pc ls ((.int j :: .ref a :: st).map (rv sg))) rfl (rest := st.map (rv sg)) rfl (by rw [C.2.1]; exact hd) t a1, b1⟩
theorem r_saload_out {J : Jb} {ce sl pc : Nat} {lv : List (Option Value)} {st : List Value} {h : AHp} {a N : Nat} {j : Int32} {ty : FieldType} {x : (Nat → Int32) ⊕ (Nat → Int64) ⊕ (Nat → UInt32) ⊕ (Nat → UInt64) ⊕ (Nat → Option Nat)} (hd : decode J.1.2.1 pc = .ok (.saload, 1)) (hty : ty ∈ tyL) (hg : aGet h a = some (.inl (ty, N, x))) (hN : N < 2 ^ 31) (hj : ¬ vp_in j N) (hcat : (st.map fun v => v.category).sum ≤ 100) (hc : ce + 3 ≤ J.2.2.1) (hs : sl + (212 + 10) ≤ J.2.2.2.1) (k : RT J (ce + 3) (sl + (212 + 10)) pc lv (thA h) "java/lang/ArrayIndexOutOfBoundsException" (thH h)) : Rch J ce sl pc lv (.int j :: .ref a :: st) h := by
  intro l G sg R p e s m args below meth c H locs ls hR C hl hH hS T hT X
  obtain ⟨cl9, g1, g2, g3⟩ := arr_at C hH hty hg
  obtain ⟨t, a1, b1⟩ := vm_thrown (nb := 212) (stk := st.map (rv sg)) vx_aio hR C hl hH hS (catr sg st hcat) (index_text_modelled j cl9.slots.size) (index_text_bytes j (by rw [g3]; exact hN)) (by omega) hc hs k hT X
  exact ⟨t, X.saloadOut C.1 (ty := ty) (by rw [hT]; exact g1) g2 (by rw [g3]; exact vp_out hj) (g := F0 m pc ls ((.int j :: .ref a :: st).map (rv sg))) rfl (rest := st.map (rv sg)) rfl (by rw [C.2.1]; exact hd) t a1, b1⟩
theorem r_iastore_out {J : Jb} {ce sl pc : Nat} {lv : List (Option Value)} {st : List Value} {h : AHp} {a N : Nat} {j : Int32} {ty : FieldType} {x : (Nat → Int32) ⊕ (Nat → Int64) ⊕ (Nat → UInt32) ⊕ (Nat → UInt64) ⊕ (Nat → Option Nat)} {y : Int32} (hd : decode J.1.2.1 pc = .ok (.iastore, 1)) (hty : ty ∈ tyL) (hg : aGet h a = some (.inl (ty, N, x))) (hN : N < 2 ^ 31) (hj : ¬ vp_in j N) (hcat : (st.map fun v => v.category).sum ≤ 100) (hc : ce + 3 ≤ J.2.2.1) (hs : sl + (212 + 10) ≤ J.2.2.2.1) (k : RT J (ce + 3) (sl + (212 + 10)) pc lv (thA h) "java/lang/ArrayIndexOutOfBoundsException" (thH h)) : Rch J ce sl pc lv (.int y :: .int j :: .ref a :: st) h := by
  intro l G sg R p e s m args below meth c H locs ls hR C hl hH hS T hT X
  obtain ⟨cl9, g1, g2, g3⟩ := arr_at C hH hty hg
  obtain ⟨t, a1, b1⟩ := vm_thrown (nb := 212) (stk := st.map (rv sg)) vx_aio hR C hl hH hS (catr sg st hcat) (index_text_modelled j cl9.slots.size) (index_text_bytes j (by rw [g3]; exact hN)) (by omega) hc hs k hT X
  exact ⟨t, X.iastoreOut C.1 (ty := ty) (by rw [hT]; exact g1) g2 (by rw [g3]; exact vp_out hj) (g := F0 m pc ls ((.int y :: .int j :: .ref a :: st).map (rv sg))) rfl (rest := st.map (rv sg)) rfl (by rw [C.2.1]; exact hd) t a1, b1⟩
theorem r_lastore_out {J : Jb} {ce sl pc : Nat} {lv : List (Option Value)} {st : List Value} {h : AHp} {a N : Nat} {j : Int32} {ty : FieldType} {x : (Nat → Int32) ⊕ (Nat → Int64) ⊕ (Nat → UInt32) ⊕ (Nat → UInt64) ⊕ (Nat → Option Nat)} {y : Int64} (hd : decode J.1.2.1 pc = .ok (.lastore, 1)) (hty : ty ∈ tyL) (hg : aGet h a = some (.inl (ty, N, x))) (hN : N < 2 ^ 31) (hj : ¬ vp_in j N) (hcat : (st.map fun v => v.category).sum ≤ 100) (hc : ce + 3 ≤ J.2.2.1) (hs : sl + (212 + 10) ≤ J.2.2.2.1) (k : RT J (ce + 3) (sl + (212 + 10)) pc lv (thA h) "java/lang/ArrayIndexOutOfBoundsException" (thH h)) : Rch J ce sl pc lv (.long y :: .int j :: .ref a :: st) h := by
  intro l G sg R p e s m args below meth c H locs ls hR C hl hH hS T hT X
  obtain ⟨cl9, g1, g2, g3⟩ := arr_at C hH hty hg
  obtain ⟨t, a1, b1⟩ := vm_thrown (nb := 212) (stk := st.map (rv sg)) vx_aio hR C hl hH hS (catr sg st hcat) (index_text_modelled j cl9.slots.size) (index_text_bytes j (by rw [g3]; exact hN)) (by omega) hc hs k hT X
  exact ⟨t, X.lastoreOut C.1 (ty := ty) (by rw [hT]; exact g1) g2 (by rw [g3]; exact vp_out hj) (g := F0 m pc ls ((.long y :: .int j :: .ref a :: st).map (rv sg))) rfl (rest := st.map (rv sg)) rfl (by rw [C.2.1]; exact hd) t a1, b1⟩
theorem r_bastore_out {J : Jb} {ce sl pc : Nat} {lv : List (Option Value)} {st : List Value} {h : AHp} {a N : Nat} {j : Int32} {ty : FieldType} {x : (Nat → Int32) ⊕ (Nat → Int64) ⊕ (Nat → UInt32) ⊕ (Nat → UInt64) ⊕ (Nat → Option Nat)} {y : Int32} (hd : decode J.1.2.1 pc = .ok (.bastore, 1)) (hty : ty ∈ tyL) (hg : aGet h a = some (.inl (ty, N, x))) (hN : N < 2 ^ 31) (hj : ¬ vp_in j N) (hcat : (st.map fun v => v.category).sum ≤ 100) (hc : ce + 3 ≤ J.2.2.1) (hs : sl + (212 + 10) ≤ J.2.2.2.1) (k : RT J (ce + 3) (sl + (212 + 10)) pc lv (thA h) "java/lang/ArrayIndexOutOfBoundsException" (thH h)) : Rch J ce sl pc lv (.int y :: .int j :: .ref a :: st) h := by
  intro l G sg R p e s m args below meth c H locs ls hR C hl hH hS T hT X
  obtain ⟨cl9, g1, g2, g3⟩ := arr_at C hH hty hg
  obtain ⟨t, a1, b1⟩ := vm_thrown (nb := 212) (stk := st.map (rv sg)) vx_aio hR C hl hH hS (catr sg st hcat) (index_text_modelled j cl9.slots.size) (index_text_bytes j (by rw [g3]; exact hN)) (by omega) hc hs k hT X
  exact ⟨t, X.bastoreOut C.1 (ty := ty) (by rw [hT]; exact g1) g2 (by rw [g3]; exact vp_out hj) (g := F0 m pc ls ((.int y :: .int j :: .ref a :: st).map (rv sg))) rfl (rest := st.map (rv sg)) rfl (by rw [C.2.1]; exact hd) t a1, b1⟩
theorem r_sastore_out {J : Jb} {ce sl pc : Nat} {lv : List (Option Value)} {st : List Value} {h : AHp} {a N : Nat} {j : Int32} {ty : FieldType} {x : (Nat → Int32) ⊕ (Nat → Int64) ⊕ (Nat → UInt32) ⊕ (Nat → UInt64) ⊕ (Nat → Option Nat)} {y : Int32} (hd : decode J.1.2.1 pc = .ok (.sastore, 1)) (hty : ty ∈ tyL) (hg : aGet h a = some (.inl (ty, N, x))) (hN : N < 2 ^ 31) (hj : ¬ vp_in j N) (hcat : (st.map fun v => v.category).sum ≤ 100) (hc : ce + 3 ≤ J.2.2.1) (hs : sl + (212 + 10) ≤ J.2.2.2.1) (k : RT J (ce + 3) (sl + (212 + 10)) pc lv (thA h) "java/lang/ArrayIndexOutOfBoundsException" (thH h)) : Rch J ce sl pc lv (.int y :: .int j :: .ref a :: st) h := by
  intro l G sg R p e s m args below meth c H locs ls hR C hl hH hS T hT X
  obtain ⟨cl9, g1, g2, g3⟩ := arr_at C hH hty hg
  obtain ⟨t, a1, b1⟩ := vm_thrown (nb := 212) (stk := st.map (rv sg)) vx_aio hR C hl hH hS (catr sg st hcat) (index_text_modelled j cl9.slots.size) (index_text_bytes j (by rw [g3]; exact hN)) (by omega) hc hs k hT X
  exact ⟨t, X.sastoreOut C.1 (ty := ty) (by rw [hT]; exact g1) g2 (by rw [g3]; exact vp_out hj) (g := F0 m pc ls ((.int y :: .int j :: .ref a :: st).map (rv sg))) rfl (rest := st.map (rv sg)) rfl (by rw [C.2.1]; exact hd) t a1, b1⟩
