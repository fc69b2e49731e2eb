set_option maxRecDepth 100000
/-! the component: rows on shelves -/
/-- a row of sort k and length m whose elements are f's (as the reference keeps them) -/
def rwC (k m : Nat) (f : Nat → Int64) : AC := match k with
  | 0 => .inl (.byte, m, .inl (fun q => (f q).toInt32))
  | 1 => .inl (.short, m, .inl (fun q => (f q).toInt32))
  | 2 => .inl (.int, m, .inl (fun q => (f q).toInt32))
  | 3 => .inl (.long, m, .inr (.inl f))
  | _ => .inl (.boolean, m, .inl (fun q => (f q).toInt32))
def nmK (k : Nat) : String := match k with
  | 0 => "[B"
  | 1 => "[S"
  | 2 => "[I"
  | 3 => "[J"
  | _ => "[Z"
theorem isA_row {h : AHp} {a m : Nat} {f : Nat → Int64} (k : Nat) (hg : aGet h a = some (rwC k m f)) : IsA h a (nmK k) := by
  match k, hg with
  | 0, hg => exact isA_arr (ty := .byte) (List.mem_of_getElem? (i := 2) rfl) hg
  | 1, hg => exact isA_arr (ty := .short) (List.mem_of_getElem? (i := 3) rfl) hg
  | 2, hg => exact isA_arr (ty := .int) (List.mem_of_getElem? (i := 0) rfl) hg
  | 3, hg => exact isA_arr (ty := .long) (List.mem_of_getElem? (i := 1) rfl) hg
  | k + 4, hg => exact isA_arr (ty := .boolean) (List.mem_of_getElem? (i := 4) rfl) hg
/-- no row is a looker -/
theorem nc_row (k : Nat) : NC (nmK k) "SeenInOrderOfAge$Looker" := by
  match k with
  | 0 => exact nc_AB_Looker
  | 1 => exact nc_AS_Looker
  | 2 => exact nc_AI_Looker
  | 3 => exact nc_AJ_Looker
  | k + 4 => exact nc_AZ_Looker
theorem k5 {k : Nat} (hk : k < 5) : k = 0 ∨ k = 1 ∨ k = 2 ∨ k = 3 ∨ k = 4 := by omega
theorem pX0_sortOf {h : AHp} {a k m : Nat} {f : Nat → Int64} {Q : Option Value → AHp → Prop} (hk : k < 5) (hg : aGet h a = some (rwC k m f)) (hQ : Q (some (.int (nI k))) h) : AMet mX0_sortOf 1 0 0 [.ref a] h Q := by
  refine AMet.ofRch rfl rfl (Nat.le_of_ble_eq_true rfl) ?_
  have hA := isA_row k hg
  rcases k5 hk with rfl | rfl | rfl | rfl | rfl
  · refine r_aload_n dX0_sortOf_0 rfl ?_
    refine r_instE hA q452 dX0_sortOf_1 ?_
    refine r_if_eq 9 dX0_sortOf_4 (by decide) (fun c_ => absurd c_ (by decide)) (fun _ => ?_)
    refine r_iconst 0 dX0_sortOf_7 (by decide) ?_
    exact r_iret dX0_sortOf_8 rfl (Nat.le_of_ble_eq_true rfl) (Nat.le_of_ble_eq_true rfl) (hQ)
  · refine r_aload_n dX0_sortOf_0 rfl ?_
    refine r_instNo hA nc_AS_AB q452 dX0_sortOf_1 ?_
    refine r_if_eq 9 dX0_sortOf_4 (by decide) (fun _ => ?_) (fun c_ => absurd (rfl) c_)
    refine r_aload_n dX0_sortOf_9 rfl ?_
    refine r_instE hA q453 dX0_sortOf_10 ?_
    refine r_if_eq 18 dX0_sortOf_13 (by decide) (fun c_ => absurd c_ (by decide)) (fun _ => ?_)
    refine r_iconst 1 dX0_sortOf_16 (by decide) ?_
    exact r_iret dX0_sortOf_17 rfl (Nat.le_of_ble_eq_true rfl) (Nat.le_of_ble_eq_true rfl) (hQ)
  · refine r_aload_n dX0_sortOf_0 rfl ?_
    refine r_instNo hA nc_AI_AB q452 dX0_sortOf_1 ?_
    refine r_if_eq 9 dX0_sortOf_4 (by decide) (fun _ => ?_) (fun c_ => absurd (rfl) c_)
    refine r_aload_n dX0_sortOf_9 rfl ?_
    refine r_instNo hA nc_AI_AS q453 dX0_sortOf_10 ?_
    refine r_if_eq 18 dX0_sortOf_13 (by decide) (fun _ => ?_) (fun c_ => absurd (rfl) c_)
    refine r_aload_n dX0_sortOf_18 rfl ?_
    refine r_instE hA q454 dX0_sortOf_19 ?_
    refine r_if_eq 27 dX0_sortOf_22 (by decide) (fun c_ => absurd c_ (by decide)) (fun _ => ?_)
    refine r_iconst 2 dX0_sortOf_25 (by decide) ?_
    exact r_iret dX0_sortOf_26 rfl (Nat.le_of_ble_eq_true rfl) (Nat.le_of_ble_eq_true rfl) (hQ)
  · refine r_aload_n dX0_sortOf_0 rfl ?_
    refine r_instNo hA nc_AJ_AB q452 dX0_sortOf_1 ?_
    refine r_if_eq 9 dX0_sortOf_4 (by decide) (fun _ => ?_) (fun c_ => absurd (rfl) c_)
    refine r_aload_n dX0_sortOf_9 rfl ?_
    refine r_instNo hA nc_AJ_AS q453 dX0_sortOf_10 ?_
    refine r_if_eq 18 dX0_sortOf_13 (by decide) (fun _ => ?_) (fun c_ => absurd (rfl) c_)
    refine r_aload_n dX0_sortOf_18 rfl ?_
    refine r_instNo hA nc_AJ_AI q454 dX0_sortOf_19 ?_
    refine r_if_eq 27 dX0_sortOf_22 (by decide) (fun _ => ?_) (fun c_ => absurd (rfl) c_)
    refine r_aload_n dX0_sortOf_27 rfl ?_
    refine r_instE hA q455 dX0_sortOf_28 ?_
    refine r_if_eq 38 dX0_sortOf_31 (by decide) (fun c_ => absurd c_ (by decide)) (fun _ => ?_)
    refine r_iconst 3 dX0_sortOf_34 (by decide) ?_
    refine r_goto 39 dX0_sortOf_35 (by decide) ?_
    exact r_iret dX0_sortOf_39 rfl (Nat.le_of_ble_eq_true rfl) (Nat.le_of_ble_eq_true rfl) (hQ)
  · refine r_aload_n dX0_sortOf_0 rfl ?_
    refine r_instNo hA nc_AZ_AB q452 dX0_sortOf_1 ?_
    refine r_if_eq 9 dX0_sortOf_4 (by decide) (fun _ => ?_) (fun c_ => absurd (rfl) c_)
    refine r_aload_n dX0_sortOf_9 rfl ?_
    refine r_instNo hA nc_AZ_AS q453 dX0_sortOf_10 ?_
    refine r_if_eq 18 dX0_sortOf_13 (by decide) (fun _ => ?_) (fun c_ => absurd (rfl) c_)
    refine r_aload_n dX0_sortOf_18 rfl ?_
    refine r_instNo hA nc_AZ_AI q454 dX0_sortOf_19 ?_
    refine r_if_eq 27 dX0_sortOf_22 (by decide) (fun _ => ?_) (fun c_ => absurd (rfl) c_)
    refine r_aload_n dX0_sortOf_27 rfl ?_
    refine r_instNo hA nc_AZ_AJ q455 dX0_sortOf_28 ?_
    refine r_if_eq 38 dX0_sortOf_31 (by decide) (fun _ => ?_) (fun c_ => absurd (rfl) c_)
    refine r_iconst 4 dX0_sortOf_38 (by decide) ?_
    exact r_iret dX0_sortOf_39 rfl (Nat.le_of_ble_eq_true rfl) (Nat.le_of_ble_eq_true rfl) (hQ)
theorem pX0_rowOf {h : AHp} {k : Nat} {n : Int32} {Q : OC → AHp → Prop} (hk : k < 5) (hn : ¬ 40 < n) (hQ : ∀ m, m ≤ 40 → n = nI m → Q (.inl (some (.ref (aNew h)))) (aPush h (rwC k m (fun _ => 0)))) (hN : n < 0 → Q (.inr (thA h, "java/lang/NegativeArraySizeException")) (thH h)) : AMetX mX0_rowOf 1 3 54 [.int (nI k), .int n] h Q := by
  refine AMetX.ofRch rfl (Nat.le_of_ble_eq_true rfl) ?_
  by_cases h0 : n < 0
  · rcases k5 hk with rfl | rfl | rfl | rfl | rfl
    · refine r_iload_n dX0_rowOf_0 rfl ?_
      refine r_tableIn 32 dX0_rowOf_1 (by decide) (by decide) rfl (by decide) ?_
      refine r_iload_n dX0_rowOf_32 rfl ?_
      exact r_newneg dX0_rowOf_33 h0 (Nat.le_of_ble_eq_true rfl) (Nat.le_of_ble_eq_true rfl) (Nat.le_of_ble_eq_true rfl) (rt_leave rfl (Nat.le_of_ble_eq_true rfl) (Nat.le_of_ble_eq_true rfl) (hN h0))
    · refine r_iload_n dX0_rowOf_0 rfl ?_
      refine r_tableIn 36 dX0_rowOf_1 (by decide) (by decide) rfl (by decide) ?_
      refine r_iload_n dX0_rowOf_36 rfl ?_
      exact r_newneg dX0_rowOf_37 h0 (Nat.le_of_ble_eq_true rfl) (Nat.le_of_ble_eq_true rfl) (Nat.le_of_ble_eq_true rfl) (rt_leave rfl (Nat.le_of_ble_eq_true rfl) (Nat.le_of_ble_eq_true rfl) (hN h0))
    · refine r_iload_n dX0_rowOf_0 rfl ?_
      refine r_tableIn 40 dX0_rowOf_1 (by decide) (by decide) rfl (by decide) ?_
      refine r_iload_n dX0_rowOf_40 rfl ?_
      exact r_newneg dX0_rowOf_41 h0 (Nat.le_of_ble_eq_true rfl) (Nat.le_of_ble_eq_true rfl) (Nat.le_of_ble_eq_true rfl) (rt_leave rfl (Nat.le_of_ble_eq_true rfl) (Nat.le_of_ble_eq_true rfl) (hN h0))
    · refine r_iload_n dX0_rowOf_0 rfl ?_
      refine r_tableIn 44 dX0_rowOf_1 (by decide) (by decide) rfl (by decide) ?_
      refine r_iload_n dX0_rowOf_44 rfl ?_
      exact r_newneg dX0_rowOf_45 h0 (Nat.le_of_ble_eq_true rfl) (Nat.le_of_ble_eq_true rfl) (Nat.le_of_ble_eq_true rfl) (rt_leave rfl (Nat.le_of_ble_eq_true rfl) (Nat.le_of_ble_eq_true rfl) (hN h0))
    · refine r_iload_n dX0_rowOf_0 rfl ?_
      refine r_tableOut 48 dX0_rowOf_1 (by decide) (by decide) ?_
      refine r_iload_n dX0_rowOf_48 rfl ?_
      exact r_newneg dX0_rowOf_49 h0 (Nat.le_of_ble_eq_true rfl) (Nat.le_of_ble_eq_true rfl) (Nat.le_of_ble_eq_true rfl) (rt_leave rfl (Nat.le_of_ble_eq_true rfl) (Nat.le_of_ble_eq_true rfl) (hN h0))
  · obtain ⟨m, hm31, rfl⟩ := nI_of h0
    have hm : m ≤ 40 := by
      refine Nat.le_of_not_lt (fun z => hn ?_)
      exact nI_lt (a := 40) z hm31
    have hq := hQ m hm rfl
    rcases k5 hk with rfl | rfl | rfl | rfl | rfl
    · refine r_iload_n dX0_rowOf_0 rfl ?_
      refine r_tableIn 32 dX0_rowOf_1 (by decide) (by decide) rfl (by decide) ?_
      refine r_iload_n dX0_rowOf_32 rfl ?_
      refine r_newa_byte m q370 dX0_rowOf_33 h0 (nI_clamp (by omega)) (by omega) (Nat.le_of_ble_eq_true rfl) (by show 0 + m ≤ 54; omega) ?_
      exact r_aret dX0_rowOf_35 rfl (by first | exact Or.inl ⟨_, rfl⟩ | exact Or.inr ⟨_, rfl⟩) (Nat.le_of_ble_eq_true rfl) (by show 0 + m ≤ 54; omega) (hq)
    · refine r_iload_n dX0_rowOf_0 rfl ?_
      refine r_tableIn 36 dX0_rowOf_1 (by decide) (by decide) rfl (by decide) ?_
      refine r_iload_n dX0_rowOf_36 rfl ?_
      refine r_newa_short m q388 dX0_rowOf_37 h0 (nI_clamp (by omega)) (by omega) (Nat.le_of_ble_eq_true rfl) (by show 0 + m ≤ 54; omega) ?_
      exact r_aret dX0_rowOf_39 rfl (by first | exact Or.inl ⟨_, rfl⟩ | exact Or.inr ⟨_, rfl⟩) (Nat.le_of_ble_eq_true rfl) (by show 0 + m ≤ 54; omega) (hq)
    · refine r_iload_n dX0_rowOf_0 rfl ?_
      refine r_tableIn 40 dX0_rowOf_1 (by decide) (by decide) rfl (by decide) ?_
      refine r_iload_n dX0_rowOf_40 rfl ?_
      refine r_newa_int m q154 dX0_rowOf_41 h0 (nI_clamp (by omega)) (by omega) (Nat.le_of_ble_eq_true rfl) (by show 0 + m ≤ 54; omega) ?_
      exact r_aret dX0_rowOf_43 rfl (by first | exact Or.inl ⟨_, rfl⟩ | exact Or.inr ⟨_, rfl⟩) (Nat.le_of_ble_eq_true rfl) (by show 0 + m ≤ 54; omega) (hq)
    · refine r_iload_n dX0_rowOf_0 rfl ?_
      refine r_tableIn 44 dX0_rowOf_1 (by decide) (by decide) rfl (by decide) ?_
      refine r_iload_n dX0_rowOf_44 rfl ?_
      refine r_newa_long m q389 dX0_rowOf_45 h0 (nI_clamp (by omega)) (by omega) (Nat.le_of_ble_eq_true rfl) (by show 0 + m ≤ 54; omega) ?_
      exact r_aret dX0_rowOf_47 rfl (by first | exact Or.inl ⟨_, rfl⟩ | exact Or.inr ⟨_, rfl⟩) (Nat.le_of_ble_eq_true rfl) (by show 0 + m ≤ 54; omega) (hq)
    · refine r_iload_n dX0_rowOf_0 rfl ?_
      refine r_tableOut 48 dX0_rowOf_1 (by decide) (by decide) ?_
      refine r_iload_n dX0_rowOf_48 rfl ?_
      refine r_newa_boolean m q390 dX0_rowOf_49 h0 (nI_clamp (by omega)) (by omega) (Nat.le_of_ble_eq_true rfl) (by show 0 + m ≤ 54; omega) ?_
      exact r_aret dX0_rowOf_51 rfl (by first | exact Or.inl ⟨_, rfl⟩ | exact Or.inr ⟨_, rfl⟩) (Nat.le_of_ble_eq_true rfl) (by show 0 + m ≤ 54; omega) (hq)
