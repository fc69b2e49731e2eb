set_option maxRecDepth 100000
/-! the component: elements of rows -/
theorem ke_i {k : Nat} {y : Int64} (hk : k < 3) (h : keF k y = y) : y.toInt32.toInt64 = y := by
  have key : ∀ z : Int32, z.toInt64 = y → y.toInt32.toInt64 = y := fun z hz => by rw [← hz, Int32.toInt32_toInt64]
  rcases (show k = 0 ∨ k = 1 ∨ k = 2 by omega) with rfl | rfl | rfl
  · exact key _ h
  · exact key _ h
  · exact key _ h
theorem ke_z {y : Int64} (h : keF 4 y = y) : y = 0 ∨ y = 1 := by
  by_cases e : y = 0
  · exact Or.inl e
  · right
    have h : (if y = 0 then (0 : Int64) else 1) = y := h
    rw [if_neg e] at h
    exact h.symm
theorem not_in {i : Int32} {m : Nat} (hm : m ≤ 40) (h : ¬ vp_in i m) : ∀ q, q < m → i ≠ nI q := fun q hq e => h (by rw [e]; exact vp_in_nI hq (by omega))
theorem pX0_elementOf {h : AHp} {a k m : Nat} {f : Nat → Int64} {i : Int32} {Q : OC → AHp → Prop} (hk : k < 5) (hm : m ≤ 40) (hg : aGet h a = some (rwC k m f)) (hke : ∀ q, q < m → keF k (f q) = f q) (hQ : ∀ q, q < m → i = nI q → Q (.inl (some (.long (f q)))) h) (hN : ¬ vp_in i m → Q (.inr (thA h, "java/lang/ArrayIndexOutOfBoundsException")) (thH h)) : AMetX mX0_elementOf 2 3 222 [.ref a, .int i] h Q := by
  refine AMetX.ofRch rfl (Nat.le_of_ble_eq_true rfl) ?_
  have hA := isA_row k hg
  by_cases hi : vp_in i m
  · obtain ⟨q, hq, rfl⟩ := vp_in_of hi (by omega)
    have hq2 := hQ q hq rfl
    have hkq := hke q hq
    have hm1 : m ≤ 1000 := by omega
    rcases k5 hk with rfl | rfl | rfl | rfl | rfl
    · refine r_aload_n dX0_elementOf_0 rfl ?_
      refine r_callS (as := [_]) okX0_sortOf q449 dX0_elementOf_1 (Nat.le_of_ble_eq_true rfl) rfl (Nat.le_of_ble_eq_true rfl) (Nat.le_of_ble_eq_true rfl) (Nat.le_of_ble_eq_true rfl) (pX0_sortOf (by decide) hg ?_)
      refine r_tableIn 36 dX0_elementOf_4 (by decide) (by decide) rfl (by decide) ?_
      refine r_aload_n dX0_elementOf_36 rfl ?_
      refine r_castE hA q452 dX0_elementOf_37 ?_
      refine r_iload_n dX0_elementOf_40 rfl ?_
      refine r_baldN dX0_elementOf_41 hg hq hm1 ?_
      refine r_i2l dX0_elementOf_42 ?_
      exact r_lret dX0_elementOf_43 rfl (Nat.le_of_ble_eq_true rfl) (Nat.le_of_ble_eq_true rfl) (by rw [ke_i (k := 0) (by decide) hkq]; exact hq2)
    · refine r_aload_n dX0_elementOf_0 rfl ?_
      refine r_callS (as := [_]) okX0_sortOf q449 dX0_elementOf_1 (Nat.le_of_ble_eq_true rfl) rfl (Nat.le_of_ble_eq_true rfl) (Nat.le_of_ble_eq_true rfl) (Nat.le_of_ble_eq_true rfl) (pX0_sortOf (by decide) hg ?_)
      refine r_tableIn 44 dX0_elementOf_4 (by decide) (by decide) rfl (by decide) ?_
      refine r_aload_n dX0_elementOf_44 rfl ?_
      refine r_castE hA q453 dX0_elementOf_45 ?_
      refine r_iload_n dX0_elementOf_48 rfl ?_
      refine r_saldN dX0_elementOf_49 hg hq hm1 ?_
      refine r_i2l dX0_elementOf_50 ?_
      exact r_lret dX0_elementOf_51 rfl (Nat.le_of_ble_eq_true rfl) (Nat.le_of_ble_eq_true rfl) (by rw [ke_i (k := 1) (by decide) hkq]; exact hq2)
    · refine r_aload_n dX0_elementOf_0 rfl ?_
      refine r_callS (as := [_]) okX0_sortOf q449 dX0_elementOf_1 (Nat.le_of_ble_eq_true rfl) rfl (Nat.le_of_ble_eq_true rfl) (Nat.le_of_ble_eq_true rfl) (Nat.le_of_ble_eq_true rfl) (pX0_sortOf (by decide) hg ?_)
      refine r_tableIn 52 dX0_elementOf_4 (by decide) (by decide) rfl (by decide) ?_
      refine r_aload_n dX0_elementOf_52 rfl ?_
      refine r_castE hA q454 dX0_elementOf_53 ?_
      refine r_iload_n dX0_elementOf_56 rfl ?_
      refine r_ialdN dX0_elementOf_57 hg hq hm1 ?_
      refine r_i2l dX0_elementOf_58 ?_
      exact r_lret dX0_elementOf_59 rfl (Nat.le_of_ble_eq_true rfl) (Nat.le_of_ble_eq_true rfl) (by rw [ke_i (k := 2) (by decide) hkq]; exact hq2)
    · refine r_aload_n dX0_elementOf_0 rfl ?_
      refine r_callS (as := [_]) okX0_sortOf q449 dX0_elementOf_1 (Nat.le_of_ble_eq_true rfl) rfl (Nat.le_of_ble_eq_true rfl) (Nat.le_of_ble_eq_true rfl) (Nat.le_of_ble_eq_true rfl) (pX0_sortOf (by decide) hg ?_)
      refine r_tableIn 60 dX0_elementOf_4 (by decide) (by decide) rfl (by decide) ?_
      refine r_aload_n dX0_elementOf_60 rfl ?_
      refine r_castE hA q455 dX0_elementOf_61 ?_
      refine r_iload_n dX0_elementOf_64 rfl ?_
      refine r_laldN dX0_elementOf_65 hg hq hm1 ?_
      exact r_lret dX0_elementOf_66 rfl (Nat.le_of_ble_eq_true rfl) (Nat.le_of_ble_eq_true rfl) (hq2)
    · refine r_aload_n dX0_elementOf_0 rfl ?_
      refine r_callS (as := [_]) okX0_sortOf q449 dX0_elementOf_1 (Nat.le_of_ble_eq_true rfl) rfl (Nat.le_of_ble_eq_true rfl) (Nat.le_of_ble_eq_true rfl) (Nat.le_of_ble_eq_true rfl) (pX0_sortOf (by decide) hg ?_)
      refine r_tableOut 67 dX0_elementOf_4 (by decide) (by decide) ?_
      refine r_aload_n dX0_elementOf_67 rfl ?_
      refine r_castE hA q456 dX0_elementOf_68 ?_
      refine r_iload_n dX0_elementOf_71 rfl ?_
      refine r_zaldN dX0_elementOf_72 hg hq hm1 ?_
      refine r_if_eq 80 dX0_elementOf_73 (by decide) (fun c_73 => ?_) (fun c_73 => ?_)
      · refine r_lconst 0 dX0_elementOf_80 (by decide) ?_
        exact r_lret dX0_elementOf_81 rfl (Nat.le_of_ble_eq_true rfl) (Nat.le_of_ble_eq_true rfl) (by first | (rcases ke_z hkq with e | e <;> rw [e] at hq2 c_73 <;> first | exact hq2 | exact absurd rfl c_73 | exact absurd c_73 (by decide)))
      · refine r_lconst 1 dX0_elementOf_76 (by decide) ?_
        refine r_goto 81 dX0_elementOf_77 (by decide) ?_
        exact r_lret dX0_elementOf_81 rfl (Nat.le_of_ble_eq_true rfl) (Nat.le_of_ble_eq_true rfl) (by first | (rcases ke_z hkq with e | e <;> rw [e] at hq2 c_73 <;> first | exact hq2 | exact absurd rfl c_73 | exact absurd c_73 (by decide)))
  · have hn := hN hi
    rcases k5 hk with rfl | rfl | rfl | rfl | rfl
    · refine r_aload_n dX0_elementOf_0 rfl ?_
      refine r_callS (as := [_]) okX0_sortOf q449 dX0_elementOf_1 (Nat.le_of_ble_eq_true rfl) rfl (Nat.le_of_ble_eq_true rfl) (Nat.le_of_ble_eq_true rfl) (Nat.le_of_ble_eq_true rfl) (pX0_sortOf (by decide) hg ?_)
      refine r_tableIn 36 dX0_elementOf_4 (by decide) (by decide) rfl (by decide) ?_
      refine r_aload_n dX0_elementOf_36 rfl ?_
      refine r_castE hA q452 dX0_elementOf_37 ?_
      refine r_iload_n dX0_elementOf_40 rfl ?_
      exact r_baload_out dX0_elementOf_41 (ty := .byte) (by decide) hg (by omega) hi (Nat.le_of_ble_eq_true rfl) (Nat.le_of_ble_eq_true rfl) (Nat.le_of_ble_eq_true rfl) (rt_leave rfl (Nat.le_of_ble_eq_true rfl) (Nat.le_of_ble_eq_true rfl) hn)
    · refine r_aload_n dX0_elementOf_0 rfl ?_
      refine r_callS (as := [_]) okX0_sortOf q449 dX0_elementOf_1 (Nat.le_of_ble_eq_true rfl) rfl (Nat.le_of_ble_eq_true rfl) (Nat.le_of_ble_eq_true rfl) (Nat.le_of_ble_eq_true rfl) (pX0_sortOf (by decide) hg ?_)
      refine r_tableIn 44 dX0_elementOf_4 (by decide) (by decide) rfl (by decide) ?_
      refine r_aload_n dX0_elementOf_44 rfl ?_
      refine r_castE hA q453 dX0_elementOf_45 ?_
      refine r_iload_n dX0_elementOf_48 rfl ?_
      exact r_saload_out dX0_elementOf_49 (ty := .short) (by decide) hg (by omega) hi (Nat.le_of_ble_eq_true rfl) (Nat.le_of_ble_eq_true rfl) (Nat.le_of_ble_eq_true rfl) (rt_leave rfl (Nat.le_of_ble_eq_true rfl) (Nat.le_of_ble_eq_true rfl) hn)
    · refine r_aload_n dX0_elementOf_0 rfl ?_
      refine r_callS (as := [_]) okX0_sortOf q449 dX0_elementOf_1 (Nat.le_of_ble_eq_true rfl) rfl (Nat.le_of_ble_eq_true rfl) (Nat.le_of_ble_eq_true rfl) (Nat.le_of_ble_eq_true rfl) (pX0_sortOf (by decide) hg ?_)
      refine r_tableIn 52 dX0_elementOf_4 (by decide) (by decide) rfl (by decide) ?_
      refine r_aload_n dX0_elementOf_52 rfl ?_
      refine r_castE hA q454 dX0_elementOf_53 ?_
      refine r_iload_n dX0_elementOf_56 rfl ?_
      exact r_iaload_out dX0_elementOf_57 (ty := .int) (by decide) hg (by omega) hi (Nat.le_of_ble_eq_true rfl) (Nat.le_of_ble_eq_true rfl) (Nat.le_of_ble_eq_true rfl) (rt_leave rfl (Nat.le_of_ble_eq_true rfl) (Nat.le_of_ble_eq_true rfl) hn)
    · refine r_aload_n dX0_elementOf_0 rfl ?_
      refine r_callS (as := [_]) okX0_sortOf q449 dX0_elementOf_1 (Nat.le_of_ble_eq_true rfl) rfl (Nat.le_of_ble_eq_true rfl) (Nat.le_of_ble_eq_true rfl) (Nat.le_of_ble_eq_true rfl) (pX0_sortOf (by decide) hg ?_)
      refine r_tableIn 60 dX0_elementOf_4 (by decide) (by decide) rfl (by decide) ?_
      refine r_aload_n dX0_elementOf_60 rfl ?_
      refine r_castE hA q455 dX0_elementOf_61 ?_
      refine r_iload_n dX0_elementOf_64 rfl ?_
      exact r_laload_out dX0_elementOf_65 (ty := .long) (by decide) hg (by omega) hi (Nat.le_of_ble_eq_true rfl) (Nat.le_of_ble_eq_true rfl) (Nat.le_of_ble_eq_true rfl) (rt_leave rfl (Nat.le_of_ble_eq_true rfl) (Nat.le_of_ble_eq_true rfl) hn)
    · refine r_aload_n dX0_elementOf_0 rfl ?_
      refine r_callS (as := [_]) okX0_sortOf q449 dX0_elementOf_1 (Nat.le_of_ble_eq_true rfl) rfl (Nat.le_of_ble_eq_true rfl) (Nat.le_of_ble_eq_true rfl) (Nat.le_of_ble_eq_true rfl) (pX0_sortOf (by decide) hg ?_)
      refine r_tableOut 67 dX0_elementOf_4 (by decide) (by decide) ?_
      refine r_aload_n dX0_elementOf_67 rfl ?_
      refine r_castE hA q456 dX0_elementOf_68 ?_
      refine r_iload_n dX0_elementOf_71 rfl ?_
      exact r_baload_out dX0_elementOf_72 (ty := .boolean) (by decide) hg (by omega) hi (Nat.le_of_ble_eq_true rfl) (Nat.le_of_ble_eq_true rfl) (Nat.le_of_ble_eq_true rfl) (rt_leave rfl (Nat.le_of_ble_eq_true rfl) (Nat.le_of_ble_eq_true rfl) hn)
theorem nar_b (x : Int32) : vp_nar .byte x.toInt8.toInt32 = x.toInt8.toInt32 := by
  show x.toInt8.toInt32.toInt8.toInt32 = _
  rw [Int8.toInt8_toInt32]
theorem nar_s (x : Int32) : vp_nar .short x.toInt16.toInt32 = x.toInt16.toInt32 := by
  show x.toInt16.toInt32.toInt16.toInt32 = _
  rw [Int16.toInt16_toInt32]
theorem up_L {f : Nat → Int64} {q : Nat} {x : Int32} {y : Int64} (h : y.toInt32 = x) : upd (fun j => (f j).toInt32) q x = fun j => (vp_updL f q y j).toInt32 := by
  funext j
  show (if j = q then x else (f j).toInt32) = (if j = q then y else f j).toInt32
  by_cases e : j = q
  · rw [if_pos e, if_pos e, h]
  · rw [if_neg e, if_neg e]
theorem pX0_puts {h : AHp} {a k m : Nat} {f : Nat → Int64} {i : Int32} {v : Int64} {Q : OC → AHp → Prop} (hk : k < 5) (hm : m ≤ 40) (hg : aGet h a = some (rwC k m f)) (hQ : ∀ q, q < m → i = nI q → Q (.inl none) (aSet h a (rwC k m (vp_updL f q (keF k v))))) (hN : ¬ vp_in i m → Q (.inr (thA h, "java/lang/ArrayIndexOutOfBoundsException")) (thH h)) : AMetX mX0_puts 2 3 222 [.ref a, .int i, .long v] h Q := by
  refine AMetX.ofRch rfl (Nat.le_of_ble_eq_true rfl) ?_
  have hA := isA_row k hg
  by_cases hi : vp_in i m
  · obtain ⟨q, hq, rfl⟩ := vp_in_of hi (by omega)
    have hq2 := hQ q hq rfl
    have hm1 : m ≤ 1000 := by omega
    rcases k5 hk with rfl | rfl | rfl | rfl | rfl
    · have e := up_L (f := f) (q := q) (y := keF 0 v) (x := (vp_nar .byte v.toInt32.toInt8.toInt32)) (by show (v.toInt32.toInt8.toInt32.toInt64).toInt32 = _; rw [Int32.toInt32_toInt64]; exact (nar_b _).symm)
      refine r_aload_n dX0_puts_0 rfl ?_
      refine r_callS (as := [_]) okX0_sortOf q449 dX0_puts_1 (Nat.le_of_ble_eq_true rfl) rfl (Nat.le_of_ble_eq_true rfl) (Nat.le_of_ble_eq_true rfl) (Nat.le_of_ble_eq_true rfl) (pX0_sortOf (by decide) hg ?_)
      refine r_tableIn 36 dX0_puts_4 (by decide) (by decide) rfl (by decide) ?_
      refine r_aload_n dX0_puts_36 rfl ?_
      refine r_castE hA q452 dX0_puts_37 ?_
      refine r_iload_n dX0_puts_40 rfl ?_
      refine r_lload_n dX0_puts_41 rfl ?_
      refine r_l2i dX0_puts_42 ?_
      refine r_i2b dX0_puts_43 ?_
      refine r_bastN dX0_puts_44 hg hq hm1 ?_
      refine r_goto 98 dX0_puts_45 (by decide) ?_
      exact r_vret dX0_puts_98 rfl (Nat.le_of_ble_eq_true rfl) (Nat.le_of_ble_eq_true rfl) (by rw [e]; exact hq2)
    · have e := up_L (f := f) (q := q) (y := keF 1 v) (x := (vp_nar .short v.toInt32.toInt16.toInt32)) (by show (v.toInt32.toInt16.toInt32.toInt64).toInt32 = _; rw [Int32.toInt32_toInt64]; exact (nar_s _).symm)
      refine r_aload_n dX0_puts_0 rfl ?_
      refine r_callS (as := [_]) okX0_sortOf q449 dX0_puts_1 (Nat.le_of_ble_eq_true rfl) rfl (Nat.le_of_ble_eq_true rfl) (Nat.le_of_ble_eq_true rfl) (Nat.le_of_ble_eq_true rfl) (pX0_sortOf (by decide) hg ?_)
      refine r_tableIn 48 dX0_puts_4 (by decide) (by decide) rfl (by decide) ?_
      refine r_aload_n dX0_puts_48 rfl ?_
      refine r_castE hA q453 dX0_puts_49 ?_
      refine r_iload_n dX0_puts_52 rfl ?_
      refine r_lload_n dX0_puts_53 rfl ?_
      refine r_l2i dX0_puts_54 ?_
      refine r_i2s dX0_puts_55 ?_
      refine r_sastN dX0_puts_56 hg hq hm1 ?_
      refine r_goto 98 dX0_puts_57 (by decide) ?_
      exact r_vret dX0_puts_98 rfl (Nat.le_of_ble_eq_true rfl) (Nat.le_of_ble_eq_true rfl) (by rw [e]; exact hq2)
    · have e := up_L (f := f) (q := q) (y := keF 2 v) (x := v.toInt32) (by show (v.toInt32.toInt64).toInt32 = _; rw [Int32.toInt32_toInt64])
      refine r_aload_n dX0_puts_0 rfl ?_
      refine r_callS (as := [_]) okX0_sortOf q449 dX0_puts_1 (Nat.le_of_ble_eq_true rfl) rfl (Nat.le_of_ble_eq_true rfl) (Nat.le_of_ble_eq_true rfl) (Nat.le_of_ble_eq_true rfl) (pX0_sortOf (by decide) hg ?_)
      refine r_tableIn 60 dX0_puts_4 (by decide) (by decide) rfl (by decide) ?_
      refine r_aload_n dX0_puts_60 rfl ?_
      refine r_castE hA q454 dX0_puts_61 ?_
      refine r_iload_n dX0_puts_64 rfl ?_
      refine r_lload_n dX0_puts_65 rfl ?_
      refine r_l2i dX0_puts_66 ?_
      refine r_iastN dX0_puts_67 hg hq hm1 ?_
      refine r_goto 98 dX0_puts_68 (by decide) ?_
      exact r_vret dX0_puts_98 rfl (Nat.le_of_ble_eq_true rfl) (Nat.le_of_ble_eq_true rfl) (by rw [e]; exact hq2)
    · refine r_aload_n dX0_puts_0 rfl ?_
      refine r_callS (as := [_]) okX0_sortOf q449 dX0_puts_1 (Nat.le_of_ble_eq_true rfl) rfl (Nat.le_of_ble_eq_true rfl) (Nat.le_of_ble_eq_true rfl) (Nat.le_of_ble_eq_true rfl) (pX0_sortOf (by decide) hg ?_)
      refine r_tableIn 71 dX0_puts_4 (by decide) (by decide) rfl (by decide) ?_
      refine r_aload_n dX0_puts_71 rfl ?_
      refine r_castE hA q455 dX0_puts_72 ?_
      refine r_iload_n dX0_puts_75 rfl ?_
      refine r_lload_n dX0_puts_76 rfl ?_
      refine r_lastN dX0_puts_77 hg hq hm1 ?_
      refine r_goto 98 dX0_puts_78 (by decide) ?_
      exact r_vret dX0_puts_98 rfl (Nat.le_of_ble_eq_true rfl) (Nat.le_of_ble_eq_true rfl) (hq2)
    · by_cases e0 : v = 0
      · have e := up_L (f := f) (q := q) (y := keF 4 v) (x := vp_nar .boolean 0) (by show (if v = 0 then (0 : Int64) else 1).toInt32 = _; rw [if_pos e0]; rfl)
        refine r_aload_n dX0_puts_0 rfl ?_
        refine r_callS (as := [_]) okX0_sortOf q449 dX0_puts_1 (Nat.le_of_ble_eq_true rfl) rfl (Nat.le_of_ble_eq_true rfl) (Nat.le_of_ble_eq_true rfl) (Nat.le_of_ble_eq_true rfl) (pX0_sortOf (by decide) hg ?_)
        refine r_tableOut 81 dX0_puts_4 (by decide) (by decide) ?_
        refine r_aload_n dX0_puts_81 rfl ?_
        refine r_castE hA q456 dX0_puts_82 ?_
        refine r_iload_n dX0_puts_85 rfl ?_
        refine r_lload_n dX0_puts_86 rfl ?_
        refine r_lconst 0 dX0_puts_87 (by decide) ?_
        refine r_lcmp dX0_puts_88 ?_
        refine r_if_eq 96 dX0_puts_89 (by decide) (fun _ => ?_) (fun c_ => absurd (lgc0.mpr e0) c_)
        refine r_iconst 0 dX0_puts_96 (by decide) ?_
        refine r_zastN dX0_puts_97 hg hq hm1 ?_
        exact r_vret dX0_puts_98 rfl (Nat.le_of_ble_eq_true rfl) (Nat.le_of_ble_eq_true rfl) (by rw [e]; exact hq2)
      · have e := up_L (f := f) (q := q) (y := keF 4 v) (x := vp_nar .boolean 1) (by show (if v = 0 then (0 : Int64) else 1).toInt32 = _; rw [if_neg e0]; rfl)
        refine r_aload_n dX0_puts_0 rfl ?_
        refine r_callS (as := [_]) okX0_sortOf q449 dX0_puts_1 (Nat.le_of_ble_eq_true rfl) rfl (Nat.le_of_ble_eq_true rfl) (Nat.le_of_ble_eq_true rfl) (Nat.le_of_ble_eq_true rfl) (pX0_sortOf (by decide) hg ?_)
        refine r_tableOut 81 dX0_puts_4 (by decide) (by decide) ?_
        refine r_aload_n dX0_puts_81 rfl ?_
        refine r_castE hA q456 dX0_puts_82 ?_
        refine r_iload_n dX0_puts_85 rfl ?_
        refine r_lload_n dX0_puts_86 rfl ?_
        refine r_lconst 0 dX0_puts_87 (by decide) ?_
        refine r_lcmp dX0_puts_88 ?_
        refine r_if_eq 96 dX0_puts_89 (by decide) (fun c_ => absurd c_ (fun z => e0 (lgc0.mp z))) (fun _ => ?_)
        refine r_iconst 1 dX0_puts_92 (by decide) ?_
        refine r_goto 97 dX0_puts_93 (by decide) ?_
        refine r_zastN dX0_puts_97 hg hq hm1 ?_
        exact r_vret dX0_puts_98 rfl (Nat.le_of_ble_eq_true rfl) (Nat.le_of_ble_eq_true rfl) (by rw [e]; exact hq2)
  · have hn := hN hi
    rcases k5 hk with rfl | rfl | rfl | rfl | rfl
    · refine r_aload_n dX0_puts_0 rfl ?_
      refine r_callS (as := [_]) okX0_sortOf q449 dX0_puts_1 (Nat.le_of_ble_eq_true rfl) rfl (Nat.le_of_ble_eq_true rfl) (Nat.le_of_ble_eq_true rfl) (Nat.le_of_ble_eq_true rfl) (pX0_sortOf (by decide) hg ?_)
      refine r_tableIn 36 dX0_puts_4 (by decide) (by decide) rfl (by decide) ?_
      refine r_aload_n dX0_puts_36 rfl ?_
      refine r_castE hA q452 dX0_puts_37 ?_
      refine r_iload_n dX0_puts_40 rfl ?_
      refine r_lload_n dX0_puts_41 rfl ?_
      refine r_l2i dX0_puts_42 ?_
      refine r_i2b dX0_puts_43 ?_
      exact r_bastore_out dX0_puts_44 (ty := .byte) (by decide) hg (by omega) hi (Nat.le_of_ble_eq_true rfl) (Nat.le_of_ble_eq_true rfl) (Nat.le_of_ble_eq_true rfl) (rt_leave rfl (Nat.le_of_ble_eq_true rfl) (Nat.le_of_ble_eq_true rfl) hn)
    · refine r_aload_n dX0_puts_0 rfl ?_
      refine r_callS (as := [_]) okX0_sortOf q449 dX0_puts_1 (Nat.le_of_ble_eq_true rfl) rfl (Nat.le_of_ble_eq_true rfl) (Nat.le_of_ble_eq_true rfl) (Nat.le_of_ble_eq_true rfl) (pX0_sortOf (by decide) hg ?_)
      refine r_tableIn 48 dX0_puts_4 (by decide) (by decide) rfl (by decide) ?_
      refine r_aload_n dX0_puts_48 rfl ?_
      refine r_castE hA q453 dX0_puts_49 ?_
      refine r_iload_n dX0_puts_52 rfl ?_
      refine r_lload_n dX0_puts_53 rfl ?_
      refine r_l2i dX0_puts_54 ?_
      refine r_i2s dX0_puts_55 ?_
      exact r_sastore_out dX0_puts_56 (ty := .short) (by decide) hg (by omega) hi (Nat.le_of_ble_eq_true rfl) (Nat.le_of_ble_eq_true rfl) (Nat.le_of_ble_eq_true rfl) (rt_leave rfl (Nat.le_of_ble_eq_true rfl) (Nat.le_of_ble_eq_true rfl) hn)
    · refine r_aload_n dX0_puts_0 rfl ?_
      refine r_callS (as := [_]) okX0_sortOf q449 dX0_puts_1 (Nat.le_of_ble_eq_true rfl) rfl (Nat.le_of_ble_eq_true rfl) (Nat.le_of_ble_eq_true rfl) (Nat.le_of_ble_eq_true rfl) (pX0_sortOf (by decide) hg ?_)
      refine r_tableIn 60 dX0_puts_4 (by decide) (by decide) rfl (by decide) ?_
      refine r_aload_n dX0_puts_60 rfl ?_
      refine r_castE hA q454 dX0_puts_61 ?_
      refine r_iload_n dX0_puts_64 rfl ?_
      refine r_lload_n dX0_puts_65 rfl ?_
      refine r_l2i dX0_puts_66 ?_
      exact r_iastore_out dX0_puts_67 (ty := .int) (by decide) hg (by omega) hi (Nat.le_of_ble_eq_true rfl) (Nat.le_of_ble_eq_true rfl) (Nat.le_of_ble_eq_true rfl) (rt_leave rfl (Nat.le_of_ble_eq_true rfl) (Nat.le_of_ble_eq_true rfl) hn)
    · refine r_aload_n dX0_puts_0 rfl ?_
      refine r_callS (as := [_]) okX0_sortOf q449 dX0_puts_1 (Nat.le_of_ble_eq_true rfl) rfl (Nat.le_of_ble_eq_true rfl) (Nat.le_of_ble_eq_true rfl) (Nat.le_of_ble_eq_true rfl) (pX0_sortOf (by decide) hg ?_)
      refine r_tableIn 71 dX0_puts_4 (by decide) (by decide) rfl (by decide) ?_
      refine r_aload_n dX0_puts_71 rfl ?_
      refine r_castE hA q455 dX0_puts_72 ?_
      refine r_iload_n dX0_puts_75 rfl ?_
      refine r_lload_n dX0_puts_76 rfl ?_
      exact r_lastore_out dX0_puts_77 (ty := .long) (by decide) hg (by omega) hi (Nat.le_of_ble_eq_true rfl) (Nat.le_of_ble_eq_true rfl) (Nat.le_of_ble_eq_true rfl) (rt_leave rfl (Nat.le_of_ble_eq_true rfl) (Nat.le_of_ble_eq_true rfl) hn)
    · by_cases e0 : v = 0
      · refine r_aload_n dX0_puts_0 rfl ?_
        refine r_callS (as := [_]) okX0_sortOf q449 dX0_puts_1 (Nat.le_of_ble_eq_true rfl) rfl (Nat.le_of_ble_eq_true rfl) (Nat.le_of_ble_eq_true rfl) (Nat.le_of_ble_eq_true rfl) (pX0_sortOf (by decide) hg ?_)
        refine r_tableOut 81 dX0_puts_4 (by decide) (by decide) ?_
        refine r_aload_n dX0_puts_81 rfl ?_
        refine r_castE hA q456 dX0_puts_82 ?_
        refine r_iload_n dX0_puts_85 rfl ?_
        refine r_lload_n dX0_puts_86 rfl ?_
        refine r_lconst 0 dX0_puts_87 (by decide) ?_
        refine r_lcmp dX0_puts_88 ?_
        refine r_if_eq 96 dX0_puts_89 (by decide) (fun _ => ?_) (fun c_ => absurd (lgc0.mpr e0) c_)
        refine r_iconst 0 dX0_puts_96 (by decide) ?_
        exact r_bastore_out dX0_puts_97 (ty := .boolean) (by decide) hg (by omega) hi (Nat.le_of_ble_eq_true rfl) (Nat.le_of_ble_eq_true rfl) (Nat.le_of_ble_eq_true rfl) (rt_leave rfl (Nat.le_of_ble_eq_true rfl) (Nat.le_of_ble_eq_true rfl) hn)
      · refine r_aload_n dX0_puts_0 rfl ?_
        refine r_callS (as := [_]) okX0_sortOf q449 dX0_puts_1 (Nat.le_of_ble_eq_true rfl) rfl (Nat.le_of_ble_eq_true rfl) (Nat.le_of_ble_eq_true rfl) (Nat.le_of_ble_eq_true rfl) (pX0_sortOf (by decide) hg ?_)
        refine r_tableOut 81 dX0_puts_4 (by decide) (by decide) ?_
        refine r_aload_n dX0_puts_81 rfl ?_
        refine r_castE hA q456 dX0_puts_82 ?_
        refine r_iload_n dX0_puts_85 rfl ?_
        refine r_lload_n dX0_puts_86 rfl ?_
        refine r_lconst 0 dX0_puts_87 (by decide) ?_
        refine r_lcmp dX0_puts_88 ?_
        refine r_if_eq 96 dX0_puts_89 (by decide) (fun c_ => absurd c_ (fun z => e0 (lgc0.mp z))) (fun _ => ?_)
        refine r_iconst 1 dX0_puts_92 (by decide) ?_
        refine r_goto 97 dX0_puts_93 (by decide) ?_
        exact r_bastore_out dX0_puts_97 (ty := .boolean) (by decide) hg (by omega) hi (Nat.le_of_ble_eq_true rfl) (Nat.le_of_ble_eq_true rfl) (Nat.le_of_ble_eq_true rfl) (rt_leave rfl (Nat.le_of_ble_eq_true rfl) (Nat.le_of_ble_eq_true rfl) hn)
