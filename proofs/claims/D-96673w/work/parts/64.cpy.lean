set_option maxRecDepth 100000
/-! System.arraycopy where it copies, aastore, Arrays.fill, the calls of Looker.takes and Looker.kind -/
theorem cp_nn {z : Int32} (hz : ¬ z < 0) : z.toInt = (z.toNatClampNeg : Int) := by
  have hz0 : (0 : Int) ≤ z.toInt := by
    have := Int32.not_lt.mp hz
    simpa using Int32.le_iff_toInt_le.mp this
  show z.toInt = ((z.toInt.toNat : Nat) : Int)
  omega
/-- a looker may lie in a row of lookers -/
theorem lk_any {G : GX} {sg : Nat → Nat} {h : AHp} {H : Heap} {s : State} {y k : Nat} {fs : List Value} (hG : GP G s) (hH : Hd G sg h H) (hk : k < 6) (hg : aGet h y = some (.inr (7 + k, fs))) : va_Any "SeenInOrderOfAge$Looker" s H (sg y) := by
  obtain ⟨q0, e1, -⟩ := wso_at (G := G) (sg := sg) (show kn (.inr (7 + k, fs)) = true by simp only [kn, bne_iff_ne]; omega) hg
  match k, hk, e1 with
  | 0, _, e1 => exact va_rAny (E := "SeenInOrderOfAge$Looker") hG.1 hH.1 e1 bX7.1 (fun comp c0 h1 h2 => by
      have h2 : s.vm.findClass "SeenInOrderOfAge$Looker" = some c0 := h2
      cases h1.symm.trans h2
      exact Vm.assignable_self _ _)
  | 1, _, e1 => exact va_rAny (E := "SeenInOrderOfAge$Looker") hG.1 hH.1 e1 bX8.1 (fun comp c0 h1 h2 => vb_asgC (hG.2.2.1 _ (List.mem_of_getElem? (i := 0) rfl)) comp c0 h1 h2)
  | 2, _, e1 => exact va_rAny (E := "SeenInOrderOfAge$Looker") hG.1 hH.1 e1 bX9.1 (fun comp c0 h1 h2 => vb_asgC (hG.2.2.1 _ (List.mem_of_getElem? (i := 2) rfl)) comp c0 h1 h2)
  | 3, _, e1 => exact va_rAny (E := "SeenInOrderOfAge$Looker") hG.1 hH.1 e1 bX10.1 (fun comp c0 h1 h2 => vb_asgC (hG.2.2.1 _ (List.mem_of_getElem? (i := 3) rfl)) comp c0 h1 h2)
  | 4, _, e1 => exact va_rAny (E := "SeenInOrderOfAge$Looker") hG.1 hH.1 e1 bX11.1 (fun comp c0 h1 h2 => vb_asgC (hG.2.2.1 _ (List.mem_of_getElem? (i := 1) rfl)) comp c0 h1 h2)
  | 5, _, e1 => exact va_rAny (E := "SeenInOrderOfAge$Looker") hG.1 hH.1 e1 bX12.1 (fun comp c0 h1 h2 => vb_asgC (hG.2.2.1 _ (List.mem_of_getElem? (i := 4) rfl)) comp c0 h1 h2)
theorem sh_any {G : GX} {sg : Nat → Nat} {h : AHp} {H : Heap} {s : State} {y : Nat} {fs : List Value} (hG : GP G s) (hH : Hd G sg h H) (hg : aGet h y = some (.inr (4, fs))) : va_Any "SeenInOrderOfAge$Sheet" s H (sg y) := by
  obtain ⟨q0, e1, -⟩ := wso_at (G := G) (sg := sg) (show kn (.inr (4, fs)) = true from rfl) hg
  exact va_rAny (E := "SeenInOrderOfAge$Sheet") hG.1 hH.1 e1 bX4.1 (fun comp c0 h1 h2 => by
    have h2 : s.vm.findClass "SeenInOrderOfAge$Sheet" = some c0 := h2
    cases h1.symm.trans h2
    exact Vm.assignable_self _ _)
theorem r_copyi {J : Jb} {ce sl pc : Nat} {lv : List (Option Value)} {st : List Value} {h : AHp} {a0 a n0 n1 index : Nat} {ty : FieldType} {f g : Nat → Int32} {sp dp n : Int32} (t0 : Nat) (ht : tyL[t0]? = some ty) (hpr : refKind ty = false) (hq : Cond.methodLink J.1.1.cls index arraycopyName ∈ lw_all) (hd : decode J.1.2.1 pc = .ok (.invokestatic index, 3)) (hg0 : aGet h a0 = some (.inl (ty, n0, .inl (f)))) (hg1 : aGet h a = some (.inl (ty, n1, .inl (g)))) (h1 : ¬ sp < 0) (h2 : ¬ dp < 0) (h3 : ¬ n < 0) (h4 : sp.toNatClampNeg + n.toNatClampNeg ≤ n0) (h5 : dp.toNatClampNeg + n.toNatClampNeg ≤ n1) (hel : ∀ i, i < n.toNatClampNeg → fits ty (.int (f (sp.toNatClampNeg + i))) = true) (hcat : (st.map fun v => v.category).sum ≤ 8) (kk : Rch J ce sl (pc + 3) lv st (aSet h a (.inl (ty, n1, .inl (va_cpy f g sp.toNatClampNeg dp.toNatClampNeg n.toNatClampNeg))))) : Rch J ce sl pc lv (.int n :: .int dp :: .ref a :: .int sp :: .ref a0 :: st) h := by
  intro l G sg R p e s m args below meth c H locs ls hR C hl hH hS
  intro T hT X
  have hts := C.2.2.2.2.2.1
  have hK := C.2.2.2.2.2.2.2.2.1.1
  have hc0 : H[sg a0]? = some (arrV (G.2.1 ty) n0 (fun j => .int (f j))) := hH.at (c := .inl (ty, n0, .inl (f))) rfl hg0
  have hc1 : H[sg a]? = some (arrV (G.2.1 ty) n1 (fun j => .int (g j))) := hH.at (c := .inl (ty, n1, .inl (g))) rfl hg1
  obtain ⟨-, k0, hk0, cm0, hkk0⟩ := (hK.2 t0 (G.2.1 ty, ty) (by simp [gT, ht])).1 n0 (fun j => .int (f j))
  obtain ⟨-, k1, hk1, cm1, hkk1⟩ := (hK.2 t0 (G.2.1 ty, ty) (by simp [gT, ht])).1 n1 (fun j => .int (g j))
  obtain ⟨vm', X', step⟩ := X.arraycopy C.1 C.2.2.2.2.1 (hts _ hq) (hts _ q503) (hts _ q502) (hts _ q100) (src := sg a0) (dst := sg a) (cs := arrV (G.2.1 ty) n0 (fun j => .int (f j))) (cd := arrV (G.2.1 ty) n1 (fun j => .int (g j))) (srcPos := sp) (destPos := dp) (n := n) (by rw [hT]; exact hc0) (by rw [hT]; exact hc1)
    (fun _ h => by cases h) (fun _ h => by cases h) (fun h => by cases h) (fun h => by cases h) hk0 hk1 hkk0 hkk1 (by simp [hpr]) h1 h2 h3
    (by rw [cp_nn h1, cp_nn h3, arrV_size]; omega)
    (by rw [cp_nn h2, cp_nn h3, arrV_size]; omega)
    (fun vm₁ hal i hi => by
      rw [show (arrV (G.2.1 ty) n0 (fun j => .int (f j))).slots.getD (sp.toNatClampNeg + i) .null = .int (f (sp.toNatClampNeg + i)) by
        rw [Array.getD_eq_getD_getElem?, arrV_read _ _ (by omega)]
        rfl]
      exact ⟨hel i hi, trivial⟩)
    (g := F0 m pc ls (.int n :: .int dp :: .ref (sg a) :: .int sp :: .ref (sg a0) :: st.map (rv sg))) rfl (by rw [C.2.2.2.1]; exact hl.1) (rest := st.map (rv sg)) rfl (by rw [C.2.1]; exact hd) (Nat.le_trans (by omega) hR.1) (by
      show 2 * 0 + _ + (5 + 2 + 11) ≤ _
      have := hR.2.1
      rw [cat_map]
      omega)
  have e1 : copied (arrV (G.2.1 ty) n0 (fun j => .int (f j))) (arrV (G.2.1 ty) n1 (fun j => .int (g j))) sp dp n = arrV (G.2.1 ty) n1 (fun j => .int (va_cpy f g sp.toNatClampNeg dp.toNatClampNeg n.toNatClampNeg j)) := va_copied (fun z => .int z) (G.2.1 ty) (G.2.1 ty) f g h4
  rw [e1] at X' step
  have hlt : sg a < H.size := (Array.getElem?_eq_some_iff.mp hc1).1
  generalize hcell : arrV (G.2.1 ty) n1 (fun j => .int (va_cpy f g sp.toNatClampNeg dp.toNatClampNeg n.toNatClampNeg j)) = cell at X' step
  have hheap : ((T.setVm vm').setCell (sg a) cell).heap = H.setIfInBounds (sg a) cell := by rw [← hT]; rfl
  have oq : ∀ q : Nat, q ≠ sg a → (H.setIfInBounds (sg a) cell)[q]? = H[q]? := fun q hq => by simp [Array.getElem?_setIfInBounds, Ne.symm hq]
  obtain ⟨hH1, hA⟩ := hH.set (H1 := H.setIfInBounds (sg a) cell) (c' := .inl (ty, n1, .inl (va_cpy f g sp.toNatClampNeg dp.toNatClampNeg n.toNatClampNeg))) rfl rfl hg1 (by
    show (H.setIfInBounds (sg a) cell)[sg a]? = some (arrV (G.2.1 ty) n1 (fun j => .int (va_cpy f g sp.toNatClampNeg dp.toNatClampNeg n.toNatClampNeg j)))
    rw [hcell]
    simp [Array.getElem?_setIfInBounds, hlt]) (by simp) oq
  obtain ⟨t, a1, b1⟩ := kk l G sg R p e s m args below meth c _ _ ls hR C hl hH1 ⟨by simp; exact hS.1, fun q g1 g2 => by
      rw [oq q (fun e => g2 (by rw [e]; exact hA))]
      exact hS.2.1 q g1 g2, fun q hq => by
      rcases List.mem_append.mp hq with h | h
      · exact hS.2.2 q h
      · obtain ⟨z, -, hz⟩ := List.mem_map.mp h
        rw [← hz]
        exact hA⟩ _ hheap X'
  exact ⟨t, step t a1, b1⟩
theorem r_copyl {J : Jb} {ce sl pc : Nat} {lv : List (Option Value)} {st : List Value} {h : AHp} {a0 a n0 n1 index : Nat} {f g : Nat → Int64} {sp dp n : Int32} (hq : Cond.methodLink J.1.1.cls index arraycopyName ∈ lw_all) (hd : decode J.1.2.1 pc = .ok (.invokestatic index, 3)) (hg0 : aGet h a0 = some (.inl (.long, n0, .inr (.inl (f))))) (hg1 : aGet h a = some (.inl (.long, n1, .inr (.inl (g))))) (h1 : ¬ sp < 0) (h2 : ¬ dp < 0) (h3 : ¬ n < 0) (h4 : sp.toNatClampNeg + n.toNatClampNeg ≤ n0) (h5 : dp.toNatClampNeg + n.toNatClampNeg ≤ n1) (hcat : (st.map fun v => v.category).sum ≤ 8) (kk : Rch J ce sl (pc + 3) lv st (aSet h a (.inl (.long, n1, .inr (.inl (va_cpy f g sp.toNatClampNeg dp.toNatClampNeg n.toNatClampNeg)))))) : Rch J ce sl pc lv (.int n :: .int dp :: .ref a :: .int sp :: .ref a0 :: st) h := by
  intro l G sg R p e s m args below meth c H locs ls hR C hl hH hS
  intro T hT X
  have hts := C.2.2.2.2.2.1
  have hK := C.2.2.2.2.2.2.2.2.1.1
  have hc0 : H[sg a0]? = some (arrV (G.2.1 .long) n0 (fun j => .long (f j))) := hH.at (c := .inl (.long, n0, .inr (.inl (f)))) rfl hg0
  have hc1 : H[sg a]? = some (arrV (G.2.1 .long) n1 (fun j => .long (g j))) := hH.at (c := .inl (.long, n1, .inr (.inl (g)))) rfl hg1
  obtain ⟨-, k0, hk0, cm0, hkk0⟩ := (hK.2 1 (G.2.1 .long, .long) rfl).1 n0 (fun j => .long (f j))
  obtain ⟨-, k1, hk1, cm1, hkk1⟩ := (hK.2 1 (G.2.1 .long, .long) rfl).1 n1 (fun j => .long (g j))
  obtain ⟨vm', X', step⟩ := X.arraycopy C.1 C.2.2.2.2.1 (hts _ hq) (hts _ q503) (hts _ q502) (hts _ q100) (src := sg a0) (dst := sg a) (cs := arrV (G.2.1 .long) n0 (fun j => .long (f j))) (cd := arrV (G.2.1 .long) n1 (fun j => .long (g j))) (srcPos := sp) (destPos := dp) (n := n) (by rw [hT]; exact hc0) (by rw [hT]; exact hc1)
    (fun _ h => by cases h) (fun _ h => by cases h) (fun h => by cases h) (fun h => by cases h) hk0 hk1 hkk0 hkk1 rfl h1 h2 h3
    (by rw [cp_nn h1, cp_nn h3, arrV_size]; omega)
    (by rw [cp_nn h2, cp_nn h3, arrV_size]; omega)
    (fun vm₁ hal i hi => by
      rw [show (arrV (G.2.1 .long) n0 (fun j => .long (f j))).slots.getD (sp.toNatClampNeg + i) .null = .long (f (sp.toNatClampNeg + i)) by
        rw [Array.getD_eq_getD_getElem?, arrV_read _ _ (by omega)]
        rfl]
      exact ⟨rfl, trivial⟩)
    (g := F0 m pc ls (.int n :: .int dp :: .ref (sg a) :: .int sp :: .ref (sg a0) :: st.map (rv sg))) rfl (by rw [C.2.2.2.1]; exact hl.1) (rest := st.map (rv sg)) rfl (by rw [C.2.1]; exact hd) (Nat.le_trans (by omega) hR.1) (by
      show 2 * 0 + _ + (5 + 2 + 11) ≤ _
      have := hR.2.1
      rw [cat_map]
      omega)
  have e1 : copied (arrV (G.2.1 .long) n0 (fun j => .long (f j))) (arrV (G.2.1 .long) n1 (fun j => .long (g j))) sp dp n = arrV (G.2.1 .long) n1 (fun j => .long (va_cpy f g sp.toNatClampNeg dp.toNatClampNeg n.toNatClampNeg j)) := va_copied (fun z => .long z) (G.2.1 .long) (G.2.1 .long) f g h4
  rw [e1] at X' step
  have hlt : sg a < H.size := (Array.getElem?_eq_some_iff.mp hc1).1
  generalize hcell : arrV (G.2.1 .long) n1 (fun j => .long (va_cpy f g sp.toNatClampNeg dp.toNatClampNeg n.toNatClampNeg j)) = cell at X' step
  have hheap : ((T.setVm vm').setCell (sg a) cell).heap = H.setIfInBounds (sg a) cell := by rw [← hT]; rfl
  have oq : ∀ q : Nat, q ≠ sg a → (H.setIfInBounds (sg a) cell)[q]? = H[q]? := fun q hq => by simp [Array.getElem?_setIfInBounds, Ne.symm hq]
  obtain ⟨hH1, hA⟩ := hH.set (H1 := H.setIfInBounds (sg a) cell) (c' := .inl (.long, n1, .inr (.inl (va_cpy f g sp.toNatClampNeg dp.toNatClampNeg n.toNatClampNeg)))) rfl rfl hg1 (by
    show (H.setIfInBounds (sg a) cell)[sg a]? = some (arrV (G.2.1 .long) n1 (fun j => .long (va_cpy f g sp.toNatClampNeg dp.toNatClampNeg n.toNatClampNeg j)))
    rw [hcell]
    simp [Array.getElem?_setIfInBounds, hlt]) (by simp) oq
  obtain ⟨t, a1, b1⟩ := kk l G sg R p e s m args below meth c _ _ ls hR C hl hH1 ⟨by simp; exact hS.1, fun q g1 g2 => by
      rw [oq q (fun e => g2 (by rw [e]; exact hA))]
      exact hS.2.1 q g1 g2, fun q hq => by
      rcases List.mem_append.mp hq with h | h
      · exact hS.2.2 q h
      · obtain ⟨z, -, hz⟩ := List.mem_map.mp h
        rw [← hz]
        exact hA⟩ _ hheap X'
  exact ⟨t, step t a1, b1⟩
theorem r_copyq {J : Jb} {ce sl pc : Nat} {lv : List (Option Value)} {st : List Value} {h : AHp} {a0 a n0 n1 index : Nat} {f g : Nat → Option Nat} {sp dp n : Int32} (hq : Cond.methodLink J.1.1.cls index arraycopyName ∈ lw_all) (hd : decode J.1.2.1 pc = .ok (.invokestatic index, 3)) (hg0 : aGet h a0 = some (.inl ((.object "SeenInOrderOfAge$Looker"), n0, .inr (.inr (.inr (.inr (f))))))) (hg1 : aGet h a = some (.inl ((.object "SeenInOrderOfAge$Looker"), n1, .inr (.inr (.inr (.inr (g))))))) (h1 : ¬ sp < 0) (h2 : ¬ dp < 0) (h3 : ¬ n < 0) (h4 : sp.toNatClampNeg + n.toNatClampNeg ≤ n0) (h5 : dp.toNatClampNeg + n.toNatClampNeg ≤ n1) (hel : ∀ i, i < n.toNatClampNeg → ∀ y, f (sp.toNatClampNeg + i) = some y → ∃ k fs, k < 6 ∧ aGet h y = some (.inr (7 + k, fs))) (hcat : (st.map fun v => v.category).sum ≤ 8) (kk : Rch J ce sl (pc + 3) lv st (aSet h a (.inl ((.object "SeenInOrderOfAge$Looker"), n1, .inr (.inr (.inr (.inr (va_cpy f g sp.toNatClampNeg dp.toNatClampNeg n.toNatClampNeg)))))))) : Rch J ce sl pc lv (.int n :: .int dp :: .ref a :: .int sp :: .ref a0 :: st) h := by
  intro l G sg R p e s m args below meth c H locs ls hR C hl hH hS
  intro T hT X
  have hts := C.2.2.2.2.2.1
  have hK := C.2.2.2.2.2.2.2.2.1.1
  have hc0 : H[sg a0]? = some (arrV (G.2.1 (.object "SeenInOrderOfAge$Looker")) n0 (fun j => va_rf ((f j).map sg))) := hH.at (c := .inl ((.object "SeenInOrderOfAge$Looker"), n0, .inr (.inr (.inr (.inr (f)))))) rfl hg0
  have hc1 : H[sg a]? = some (arrV (G.2.1 (.object "SeenInOrderOfAge$Looker")) n1 (fun j => va_rf ((g j).map sg))) := hH.at (c := .inl ((.object "SeenInOrderOfAge$Looker"), n1, .inr (.inr (.inr (.inr (g)))))) rfl hg1
  obtain ⟨-, k0, hk0, cm0, hkk0⟩ := (hK.2 5 (G.2.1 (.object "SeenInOrderOfAge$Looker"), (.object "SeenInOrderOfAge$Looker")) rfl).1 n0 (fun j => va_rf ((f j).map sg))
  obtain ⟨-, k1, hk1, cm1, hkk1⟩ := (hK.2 5 (G.2.1 (.object "SeenInOrderOfAge$Looker"), (.object "SeenInOrderOfAge$Looker")) rfl).1 n1 (fun j => va_rf ((g j).map sg))
  obtain ⟨vm', X', step⟩ := X.arraycopy C.1 C.2.2.2.2.1 (hts _ hq) (hts _ q503) (hts _ q502) (hts _ q100) (src := sg a0) (dst := sg a) (cs := arrV (G.2.1 (.object "SeenInOrderOfAge$Looker")) n0 (fun j => va_rf ((f j).map sg))) (cd := arrV (G.2.1 (.object "SeenInOrderOfAge$Looker")) n1 (fun j => va_rf ((g j).map sg))) (srcPos := sp) (destPos := dp) (n := n) (by rw [hT]; exact hc0) (by rw [hT]; exact hc1)
    (fun _ h => by cases h) (fun _ h => by cases h) (fun h => by cases h) (fun h => by cases h) hk0 hk1 hkk0 hkk1 rfl h1 h2 h3
    (by rw [cp_nn h1, cp_nn h3, arrV_size]; omega)
    (by rw [cp_nn h2, cp_nn h3, arrV_size]; omega)
    (fun vm₁ hal i hi => by
      rw [show (arrV (G.2.1 (.object "SeenInOrderOfAge$Looker")) n0 (fun j => va_rf ((f j).map sg))).slots.getD (sp.toNatClampNeg + i) .null = va_rf ((f (sp.toNatClampNeg + i)).map sg) by
        rw [Array.getD_eq_getD_getElem?, arrV_read _ _ (by omega)]
        rfl]
      cases hy : f (sp.toNatClampNeg + i) with
      | none => exact ⟨rfl, trivial⟩
      | some y =>
        obtain ⟨k, fs, hk6, hyc⟩ := hel i hi y hy
        obtain ⟨cellV, g1, g2, ⟨kC, hkC⟩, hasg⟩ := lk_any C.2.2.2.2.2.2.2.2.1 hH hk6 hyc
        obtain ⟨kA, comp, r1, r2, r3, -⟩ := (hK.2 5 _ rfl).2
        cases hk1.symm.trans r1
        cases hkk1.symm.trans r2
        obtain ⟨kE, hkE, -⟩ := Vm.findClass_spec r3
        obtain ⟨kC', hkC', -⟩ := hal.2.2 _ _ hkC
        obtain ⟨kE', hkE', -⟩ := hal.2.2 _ _ hkE
        refine ⟨rfl, cellV, (show T.heap[sg y]? = some cellV by rw [hT]; exact g1), (fun q h => by rw [h] at g2; cases g2), ⟨kC', hkC'⟩, ⟨kE', hkE'⟩, ?_⟩
        show vm₁.assignable _ _ = true
        rw [hal.assignable]
        exact hasg _ r3)
    (g := F0 m pc ls (.int n :: .int dp :: .ref (sg a) :: .int sp :: .ref (sg a0) :: st.map (rv sg))) rfl (by rw [C.2.2.2.1]; exact hl.1) (rest := st.map (rv sg)) rfl (by rw [C.2.1]; exact hd) (Nat.le_trans (by omega) hR.1) (by
      show 2 * 0 + _ + (5 + 2 + 11) ≤ _
      have := hR.2.1
      rw [cat_map]
      omega)
  have e1 : copied (arrV (G.2.1 (.object "SeenInOrderOfAge$Looker")) n0 (fun j => va_rf ((f j).map sg))) (arrV (G.2.1 (.object "SeenInOrderOfAge$Looker")) n1 (fun j => va_rf ((g j).map sg))) sp dp n = arrV (G.2.1 (.object "SeenInOrderOfAge$Looker")) n1 (fun j => va_rf ((va_cpy f g sp.toNatClampNeg dp.toNatClampNeg n.toNatClampNeg j).map sg)) := va_copied (fun z => va_rf (Option.map sg z)) (G.2.1 (.object "SeenInOrderOfAge$Looker")) (G.2.1 (.object "SeenInOrderOfAge$Looker")) f g h4
  rw [e1] at X' step
  have hlt : sg a < H.size := (Array.getElem?_eq_some_iff.mp hc1).1
  generalize hcell : arrV (G.2.1 (.object "SeenInOrderOfAge$Looker")) n1 (fun j => va_rf ((va_cpy f g sp.toNatClampNeg dp.toNatClampNeg n.toNatClampNeg j).map sg)) = cell at X' step
  have hheap : ((T.setVm vm').setCell (sg a) cell).heap = H.setIfInBounds (sg a) cell := by rw [← hT]; rfl
  have oq : ∀ q : Nat, q ≠ sg a → (H.setIfInBounds (sg a) cell)[q]? = H[q]? := fun q hq => by simp [Array.getElem?_setIfInBounds, Ne.symm hq]
  obtain ⟨hH1, hA⟩ := hH.set (H1 := H.setIfInBounds (sg a) cell) (c' := .inl ((.object "SeenInOrderOfAge$Looker"), n1, .inr (.inr (.inr (.inr (va_cpy f g sp.toNatClampNeg dp.toNatClampNeg n.toNatClampNeg)))))) rfl rfl hg1 (by
    show (H.setIfInBounds (sg a) cell)[sg a]? = some (arrV (G.2.1 (.object "SeenInOrderOfAge$Looker")) n1 (fun j => va_rf ((va_cpy f g sp.toNatClampNeg dp.toNatClampNeg n.toNatClampNeg j).map sg)))
    rw [hcell]
    simp [Array.getElem?_setIfInBounds, hlt]) (by simp) oq
  obtain ⟨t, a1, b1⟩ := kk l G sg R p e s m args below meth c _ _ ls hR C hl hH1 ⟨by simp; exact hS.1, fun q g1 g2 => by
      rw [oq q (fun e => g2 (by rw [e]; exact hA))]
      exact hS.2.1 q g1 g2, fun q hq => by
      rcases List.mem_append.mp hq with h | h
      · exact hS.2.2 q h
      · obtain ⟨z, -, hz⟩ := List.mem_map.mp h
        rw [← hz]
        exact hA⟩ _ hheap X'
  exact ⟨t, step t a1, b1⟩
theorem r_aast_looker {J : Jb} {ce sl pc : Nat} {lv : List (Option Value)} {st : List Value} {h : AHp} {a n v : Nat} {k : Nat} {fs : List Value} {f : Nat → Option Nat} {i : Int32} (hd : decode J.1.2.1 pc = .ok (.aastore, 1)) (hg : aGet h a = some (.inl (.object "SeenInOrderOfAge$Looker", n, .inr (.inr (.inr (.inr f)))))) (hv : aGet h v = some (.inr (7 + k, fs))) (hk : k < 6) (hi : vp_in i n) (kk : Rch J ce sl (pc + 1) lv st (aSet h a (.inl (.object "SeenInOrderOfAge$Looker", n, .inr (.inr (.inr (.inr (va_up f i.toNatClampNeg (some v))))))))) : Rch J ce sl pc lv (.ref v :: .int i :: .ref a :: st) h := by
  intro l G sg R p e s m args below meth c H locs ls hR C hl hH hS
  have hlt : i.toNatClampNeg < n := Nat.not_le.mp fun q => hi (Or.inr q)
  have h0 : ¬ i < 0 := fun q => hi (Or.inl q)
  have hc1 : H[sg a]? = some (arrV (G.2.1 (.object "SeenInOrderOfAge$Looker")) n (fun j => va_rf ((f j).map sg))) := hH.at (c := .inl (.object "SeenInOrderOfAge$Looker", n, .inr (.inr (.inr (.inr f))))) rfl hg
  obtain ⟨cellV, g1, g3, ⟨kC, hkC⟩, hasg⟩ := lk_any C.2.2.2.2.2.2.2.2.1 hH hk hv
  obtain ⟨kA, comp, k1, k2, k3, -⟩ := (C.2.2.2.2.2.2.2.2.1.1.2 5 _ rfl).2
  obtain ⟨kE, hkE, -⟩ := Vm.findClass_spec k3
  refine W.aast C.1 C.2.1 hc1 (fun q h => by cases h) (fun h => by cases h) k1 k2 rfl hkE ⟨h0, by rw [arrV_size]; exact hlt⟩ g1 (fun q h => by rw [h] at g3; cases g3) hkC (hasg _ k3) rfl rfl hd fun H1 e1 e2 e3 => ?_
  obtain ⟨hH1, hA⟩ := hH.set (c' := .inl (.object "SeenInOrderOfAge$Looker", n, .inr (.inr (.inr (.inr (va_up f i.toNatClampNeg (some v))))))) rfl rfl hg (by
    show H1[sg a]? = some (arrV (G.2.1 (.object "SeenInOrderOfAge$Looker")) n (fun j => va_rf ((va_up f i.toNatClampNeg (some v) j).map sg)))
    rw [e1, arrV_store]
    congr 2
    funext q
    by_cases hq : q = i.toNatClampNeg
    · subst hq
      simp [updV, va_up, va_rf]
    · simp [updV, va_up, hq]) e2 e3
  exact kk l G sg R p e s m args below meth c H1 _ ls hR C hl hH1 (hS.put e2 e3 hA)
theorem r_aast_sheet {J : Jb} {ce sl pc : Nat} {lv : List (Option Value)} {st : List Value} {h : AHp} {a n v : Nat} {fs : List Value} {f : Nat → Option Nat} {i : Int32} (hd : decode J.1.2.1 pc = .ok (.aastore, 1)) (hg : aGet h a = some (.inl (.object "SeenInOrderOfAge$Sheet", n, .inr (.inr (.inr (.inr f)))))) (hv : aGet h v = some (.inr (4, fs))) (hi : vp_in i n) (kk : Rch J ce sl (pc + 1) lv st (aSet h a (.inl (.object "SeenInOrderOfAge$Sheet", n, .inr (.inr (.inr (.inr (va_up f i.toNatClampNeg (some v))))))))) : Rch J ce sl pc lv (.ref v :: .int i :: .ref a :: st) h := by
  intro l G sg R p e s m args below meth c H locs ls hR C hl hH hS
  have hlt : i.toNatClampNeg < n := Nat.not_le.mp fun q => hi (Or.inr q)
  have h0 : ¬ i < 0 := fun q => hi (Or.inl q)
  have hc1 : H[sg a]? = some (arrV (G.2.1 (.object "SeenInOrderOfAge$Sheet")) n (fun j => va_rf ((f j).map sg))) := hH.at (c := .inl (.object "SeenInOrderOfAge$Sheet", n, .inr (.inr (.inr (.inr f))))) rfl hg
  obtain ⟨cellV, g1, g3, ⟨kC, hkC⟩, hasg⟩ := sh_any C.2.2.2.2.2.2.2.2.1 hH hv
  obtain ⟨kA, comp, k1, k2, k3, -⟩ := (C.2.2.2.2.2.2.2.2.1.1.2 6 _ rfl).2
  obtain ⟨kE, hkE, -⟩ := Vm.findClass_spec k3
  refine W.aast C.1 C.2.1 hc1 (fun q h => by cases h) (fun h => by cases h) k1 k2 rfl hkE ⟨h0, by rw [arrV_size]; exact hlt⟩ g1 (fun q h => by rw [h] at g3; cases g3) hkC (hasg _ k3) rfl rfl hd fun H1 e1 e2 e3 => ?_
  obtain ⟨hH1, hA⟩ := hH.set (c' := .inl (.object "SeenInOrderOfAge$Sheet", n, .inr (.inr (.inr (.inr (va_up f i.toNatClampNeg (some v))))))) rfl rfl hg (by
    show H1[sg a]? = some (arrV (G.2.1 (.object "SeenInOrderOfAge$Sheet")) n (fun j => va_rf ((va_up f i.toNatClampNeg (some v) j).map sg)))
    rw [e1, arrV_store]
    congr 2
    funext q
    by_cases hq : q = i.toNatClampNeg
    · subst hq
      simp [updV, va_up, va_rf]
    · simp [updV, va_up, hq]) e2 e3
  exact kk l G sg R p e s m args below meth c H1 _ ls hR C hl hH1 (hS.put e2 e3 hA)
theorem pJ0_fill {h : AHp} {a n : Nat} {F : Nat → Int32} {v : Int32} {Q : Option Value → AHp → Prop} (hg : aGet h a = some (.inl (.int, n, .inl F))) (hn : n < 1000) (hQ : Q none (aSet h a (.inl (.int, n, .inl (fun _ => v))))) : AMet mJ0_fill 1 0 0 [.ref a, .int v] h Q := by
  refine AMet.ofRch rfl rfl (Nat.le_of_ble_eq_true rfl) ?_
  refine r_iconst 0 dJ0_fill_0 (by decide) ?_
  refine r_istore_n dJ0_fill_1 (Nat.le_of_ble_eq_true rfl) ?_
  refine r_aload_n dJ0_fill_2 rfl ?_
  refine r_alen dJ0_fill_3 hg 0 rfl ?_
  refine r_istore_n dJ0_fill_4 (Nat.le_of_ble_eq_true rfl) ?_
  refine eqP (P := fun z => Rch (mJ0_fill, 1, 0, 0, oQ Q) 0 0 5 [some (.ref a), some (.int v), some (.int (nI 0)), some (.int (nI n))] [] z) (aSet_id hg) ?_
  refine eqP (P := fun z => Rch (mJ0_fill, 1, 0, 0, oQ Q) 0 0 5 [some (.ref a), some (.int v), some (.int (nI 0)), some (.int (nI n))] [] (aSet h a (.inl (.int, n, .inl z)))) (fill_0 (fun _ => v) F) ?_
  refine loopUp (N := n) (P := fun k => Rch (mJ0_fill, 1, 0, 0, oQ Q) 0 0 5 [some (.ref a), some (.int v), some (.int (nI k)), some (.int (nI n))] [] (aSet h a (.inl (.int, n, .inl (fillF (fun _ => v) F k))))) ?_ ?_
  · refine r_norm (a := a) (n := n) (fun _ => v) (aGet_same hg) (fun j hj => fill_in hj) ?_
    rw [aSet_2]
    refine r_iload_n dJ0_fill_5 rfl ?_
    refine r_iload_n dJ0_fill_6 rfl ?_
    refine r_icmp_ge 20 dJ0_fill_7 (by decide) (fun _ => ?_) (fun c_ => absurd (geT n) c_)
    exact r_vret dJ0_fill_20 rfl (Nat.le_of_ble_eq_true rfl) (Nat.le_of_ble_eq_true rfl) (hQ)
  · intro k hk ih
    refine r_iload_n dJ0_fill_5 rfl ?_
    refine r_iload_n dJ0_fill_6 rfl ?_
    refine r_icmp_ge 20 dJ0_fill_7 (by decide) (fun c_ => absurd c_ (geF hk (by omega))) (fun _ => ?_)
    refine r_aload_n dJ0_fill_10 rfl ?_
    refine r_iload_n dJ0_fill_11 rfl ?_
    refine r_iload_n dJ0_fill_12 rfl ?_
    refine r_iast dJ0_fill_13 (aGet_same hg) (vp_in_nI (by omega) (by omega)) ?_
    rw [aSet_2, nI_clamp (by omega), fill_up (fun _ => v)]
    refine r_iincV dJ0_fill_14 rfl (Nat.le_of_ble_eq_true rfl) (incN _) ?_
    refine r_goto 5 dJ0_fill_17 (by decide) ?_
    exact ih
theorem r_takes {J : Jb} {ce sl pc : Nat} {lv : List (Option Value)} {st : List Value} {h : AHp} {o a s w k : Nat} {nu lk : Int32} {P : Nat → Int32} {index : Nat} (hk : k < 6) (hw : w < 8) (hoa : a ≠ o) (hos : s ≠ o) (ho : aGet h o = some (.inr (7 + k, [.int nu, .int (nI w)]))) (ha : aGet h a = some (.inr (2, [.ref s, .int (-1)]))) (hs : aGet h s = some (.inl (.int, 12, .inl P))) (hne : a ≠ s) (hP : ThI P) (hq : Cond.methodLink J.1.1.cls index mX7_takes.1 ∈ lw_all) (hd : decode J.1.2.1 pc = .ok (.invokevirtual index, 3)) (hdp : 7 ≤ J.2.1) (hcat : (st.map fun v => v.category).sum ≤ 8) (hc : ce ≤ J.2.2.1) (hsl : sl ≤ J.2.2.2.1) (kk : Rch J ce sl (pc + 3) lv (.int (goF k (nI w) lk (P, 0, -1)).2.1 :: st) (pnS h a s (goF k (nI w) lk (P, 0, -1)).2.2 (goF k (nI w) lk (P, 0, -1)).1)) : Rch J ce sl pc lv (.int (lk ||| (1 <<< (nI w &&& 31))) :: .ref a :: .ref o :: st) h := by
  rcases (show k = 0 ∨ k = 1 ∨ k = 2 ∨ k = 3 ∨ k = 4 ∨ k = 5 by omega) with rfl | rfl | rfl | rfl | rfl | rfl
  · have t0 : TfI ((P, 0, -1) : EV) := ⟨fun _ => rfl, fun _ => rfl⟩
    have e0 : goF 0 (nI w) lk (P, 0, -1) = tkF (loF (nI w) lk P) (P, 0, -1) := rfl
    rw [e0, tk_oc t0] at kk
    simp only [Int32.zero_or] at kk
    have hdp : 4 + 1 ≤ J.2.1 := by omega
    refine r_callO (as := [_, _]) okX7_takes.1 okX7_takes.2.1 q579 okX7_takes.2.1 okX7_takes.1.1 q578 okX7_takes.1.2.2.1 bX7 ho hq hd hdp rfl hcat hc hsl (pX7_takes_X7 hw ho ha hs hne hP ?_)
    exact kk
  · have hdp : 5 + 1 ≤ J.2.1 := by omega
    refine r_callO (as := [_, _]) kcX8_takes kiX8_takes q579 okX7_takes.2.1 okX7_takes.1.1 q580 okX7_takes.1.2.2.1 bX8 ho hq hd hdp rfl hcat hc hsl (pX8_takes_X8 hw hoa hos ho ha hs hne hP ?_)
    exact kk
  · have hdp : 4 + 1 ≤ J.2.1 := by omega
    refine r_callO (as := [_, _]) kcX9_takes kiX9_takes q579 okX7_takes.2.1 okX7_takes.1.1 q621 okX7_takes.1.2.2.1 bX9 ho hq hd hdp rfl hcat hc hsl (pX9_takes_X9 hw ho ha hs hne hP ?_)
    exact kk
  · have hdp : 6 + 1 ≤ J.2.1 := hdp
    refine r_callO (as := [_, _]) kcX10_takes kiX10_takes q579 okX7_takes.2.1 okX7_takes.1.1 q611 okX7_takes.1.2.2.1 bX10 ho hq hd hdp rfl hcat hc hsl (pX10_takes hw hoa hos ho ha hs hne hP ?_)
    exact kk
  · have hdp : 4 + 1 ≤ J.2.1 := by omega
    refine r_callO (as := [_, _]) kcX9_takes kiX9_takes q579 okX7_takes.2.1 okX7_takes.1.1 q585 okX7_takes.1.2.2.1 bX11 ho hq hd hdp rfl hcat hc hsl (pX9_takes_X11 hw hoa hos ho ha hs hne hP ?_)
    exact kk
  · have hdp : 4 + 1 ≤ J.2.1 := by omega
    refine r_callO (as := [_, _]) kcX12_takes kiX12_takes q579 okX7_takes.2.1 okX7_takes.1.1 q622 okX7_takes.1.2.2.1 bX12 ho hq hd hdp rfl hcat hc hsl (pX12_takes hw hoa hos ho ha hs hne hP ?_)
    exact kk
theorem pX7_kind {h : AHp} {o : Nat} {Q : Option Value → AHp → Prop} (hQ : Q (some (.int (nI 0))) h) : AMet mX7_kind 1 0 0 [.ref o] h Q := by
  refine AMet.ofRch rfl rfl (Nat.le_of_ble_eq_true rfl) ?_
  refine r_iconst 0 dX7_kind_0 (by decide) ?_
  exact r_iret dX7_kind_1 rfl (Nat.le_of_ble_eq_true rfl) (Nat.le_of_ble_eq_true rfl) (hQ)
theorem pX8_kind {h : AHp} {o : Nat} {Q : Option Value → AHp → Prop} (hQ : Q (some (.int (nI 1))) h) : AMet mX8_kind 1 0 0 [.ref o] h Q := by
  refine AMet.ofRch rfl rfl (Nat.le_of_ble_eq_true rfl) ?_
  refine r_iconst 1 dX8_kind_0 (by decide) ?_
  exact r_iret dX8_kind_1 rfl (Nat.le_of_ble_eq_true rfl) (Nat.le_of_ble_eq_true rfl) (hQ)
theorem pX9_kind {h : AHp} {o : Nat} {Q : Option Value → AHp → Prop} (hQ : Q (some (.int (nI 2))) h) : AMet mX9_kind 1 0 0 [.ref o] h Q := by
  refine AMet.ofRch rfl rfl (Nat.le_of_ble_eq_true rfl) ?_
  refine r_iconst 2 dX9_kind_0 (by decide) ?_
  exact r_iret dX9_kind_1 rfl (Nat.le_of_ble_eq_true rfl) (Nat.le_of_ble_eq_true rfl) (hQ)
theorem pX10_kind {h : AHp} {o : Nat} {Q : Option Value → AHp → Prop} (hQ : Q (some (.int (nI 3))) h) : AMet mX10_kind 1 0 0 [.ref o] h Q := by
  refine AMet.ofRch rfl rfl (Nat.le_of_ble_eq_true rfl) ?_
  refine r_iconst 3 dX10_kind_0 (by decide) ?_
  exact r_iret dX10_kind_1 rfl (Nat.le_of_ble_eq_true rfl) (Nat.le_of_ble_eq_true rfl) (hQ)
theorem pX11_kind {h : AHp} {o : Nat} {Q : Option Value → AHp → Prop} (hQ : Q (some (.int (nI 4))) h) : AMet mX11_kind 1 0 0 [.ref o] h Q := by
  refine AMet.ofRch rfl rfl (Nat.le_of_ble_eq_true rfl) ?_
  refine r_iconst 4 dX11_kind_0 (by decide) ?_
  exact r_iret dX11_kind_1 rfl (Nat.le_of_ble_eq_true rfl) (Nat.le_of_ble_eq_true rfl) (hQ)
theorem pX12_kind {h : AHp} {o : Nat} {Q : Option Value → AHp → Prop} (hQ : Q (some (.int (nI 5))) h) : AMet mX12_kind 1 0 0 [.ref o] h Q := by
  refine AMet.ofRch rfl rfl (Nat.le_of_ble_eq_true rfl) ?_
  refine r_iconst 5 dX12_kind_0 (by decide) ?_
  exact r_iret dX12_kind_1 rfl (Nat.le_of_ble_eq_true rfl) (Nat.le_of_ble_eq_true rfl) (hQ)
theorem r_kind {J : Jb} {ce sl pc : Nat} {lv : List (Option Value)} {st : List Value} {h : AHp} {o k : Nat} {fs : List Value} {index : Nat} (hk : k < 6) (ho : aGet h o = some (.inr (7 + k, fs))) (hq : Cond.methodLink J.1.1.cls index mX7_kind.1 ∈ lw_all) (hd : decode J.1.2.1 pc = .ok (.invokevirtual index, 3)) (hdp : 1 + 1 ≤ J.2.1) (hcat : (st.map fun v => v.category).sum ≤ 8) (hc : ce ≤ J.2.2.1) (hsl : sl ≤ J.2.2.2.1) (kk : Rch J ce sl (pc + 3) lv (.int (nI k) :: st) h) : Rch J ce sl pc lv (.ref o :: st) h := by
  match k, hk, ho, kk with
  | 0, _, ho, kk => exact r_callO (as := []) okX7_kind.1 okX7_kind.2.1 q1198 okX7_kind.2.1 okX7_kind.1.1 q1197 okX7_kind.1.2.2.1 bX7 ho hq hd hdp rfl hcat hc hsl (pX7_kind kk)
  | 1, _, ho, kk => exact r_callO (as := []) kcX8_kind kiX8_kind q1198 okX7_kind.2.1 okX7_kind.1.1 q1199 okX7_kind.1.2.2.1 bX8 ho hq hd hdp rfl hcat hc hsl (pX8_kind kk)
  | 2, _, ho, kk => exact r_callO (as := []) kcX9_kind kiX9_kind q1198 okX7_kind.2.1 okX7_kind.1.1 q1208 okX7_kind.1.2.2.1 bX9 ho hq hd hdp rfl hcat hc hsl (pX9_kind kk)
  | 3, _, ho, kk => exact r_callO (as := []) kcX10_kind kiX10_kind q1198 okX7_kind.2.1 okX7_kind.1.1 q1205 okX7_kind.1.2.2.1 bX10 ho hq hd hdp rfl hcat hc hsl (pX10_kind kk)
  | 4, _, ho, kk => exact r_callO (as := []) kcX11_kind kiX11_kind q1198 okX7_kind.2.1 okX7_kind.1.1 q1202 okX7_kind.1.2.2.1 bX11 ho hq hd hdp rfl hcat hc hsl (pX11_kind kk)
  | 5, _, ho, kk => exact r_callO (as := []) kcX12_kind kiX12_kind q1198 okX7_kind.2.1 okX7_kind.1.1 q1211 okX7_kind.1.2.2.1 bX12 ho hq hd hdp rfl hcat hc hsl (pX12_kind kk)
theorem r_lkA {J : Jb} {ce sl pc : Nat} {lv : List (Option Value)} {st : List Value} {h : AHp} {o c index : Nat} {nu w : Int32} (hq : Cond.fieldLink J.1.1.cls index "SeenInOrderOfAge$Looker" "a" "I" ∈ lw_all) (hd : decode J.1.2.1 pc = .ok (.getfield index, 3)) (hc : c < 6) (ho : aGet h o = some (.inr (7 + c, [.int nu, .int w]))) (kk : Rch J ce sl (pc + 3) lv (.int w :: st) h) : Rch J ce sl pc lv (.ref o :: st) h := by
  match c, hc, ho with
  | 0, _, ho => exact r_get bX7 1 (by decide) hq hd ho rfl kk
  | 1, _, ho => exact r_get bX8 1 (by decide) hq hd ho rfl kk
  | 2, _, ho => exact r_get bX9 1 (by decide) hq hd ho rfl kk
  | 3, _, ho => exact r_get bX10 1 (by decide) hq hd ho rfl kk
  | 4, _, ho => exact r_get bX11 1 (by decide) hq hd ho rfl kk
  | 5, _, ho => exact r_get bX12 1 (by decide) hq hd ho rfl kk
theorem r_lkN {J : Jb} {ce sl pc : Nat} {lv : List (Option Value)} {st : List Value} {h : AHp} {o c index : Nat} {nu w : Int32} (hq : Cond.fieldLink J.1.1.cls index "SeenInOrderOfAge$Looker" "number" "I" ∈ lw_all) (hd : decode J.1.2.1 pc = .ok (.getfield index, 3)) (hc : c < 6) (ho : aGet h o = some (.inr (7 + c, [.int nu, .int w]))) (kk : Rch J ce sl (pc + 3) lv (.int nu :: st) h) : Rch J ce sl pc lv (.ref o :: st) h := by
  match c, hc, ho with
  | 0, _, ho => exact r_get bX7 0 (by decide) hq hd ho rfl kk
  | 1, _, ho => exact r_get bX8 0 (by decide) hq hd ho rfl kk
  | 2, _, ho => exact r_get bX9 0 (by decide) hq hd ho rfl kk
  | 3, _, ho => exact r_get bX10 0 (by decide) hq hd ho rfl kk
  | 4, _, ho => exact r_get bX11 0 (by decide) hq hd ho rfl kk
  | 5, _, ho => exact r_get bX12 0 (by decide) hq hd ho rfl kk
