set_option maxRecDepth 100000
/-! the component: panes (labels by what lies there) -/
theorem aGet_same {h : AHp} {a : Nat} {c c0 : AC} (h0 : aGet h a = some c0) : aGet (aSet h a c) a = some c := by
  unfold aGet at h0 ⊢
  unfold aSet
  generalize a % 8 = x at h0 ⊢
  match x, h0 with
  | 0, h0 => exact List.getElem?_set_self (List.getElem?_eq_some_iff.mp h0).1
  | 1, h0 => exact List.getElem?_set_self (List.getElem?_eq_some_iff.mp h0).1
  | 2, h0 => exact List.getElem?_set_self (List.getElem?_eq_some_iff.mp h0).1
  | 3, h0 => exact List.getElem?_set_self (List.getElem?_eq_some_iff.mp h0).1
  | _ + 4, h0 => cases h0
theorem aGet_ne {h : AHp} {a b : Nat} {c : AC} (hne : a ≠ b) : aGet (aSet h a c) b = aGet h b := by
  have hd : a % 8 = b % 8 → a / 8 ≠ b / 8 := fun e1 e2 => hne (by omega)
  unfold aGet aSet
  generalize a % 8 = x at hd ⊢
  generalize b % 8 = y at hd ⊢
  match x, y, hd with
  | 0, 0, hd => exact List.getElem?_set_ne (hd rfl)
  | 1, 1, hd => exact List.getElem?_set_ne (hd rfl)
  | 2, 2, hd => exact List.getElem?_set_ne (hd rfl)
  | 3, 3, hd => exact List.getElem?_set_ne (hd rfl)
  | 0, 1, _ | 0, 2, _ | 0, 3, _ | 0, _ + 4, _ => rfl
  | 1, 0, _ | 1, 2, _ | 1, 3, _ | 1, _ + 4, _ => rfl
  | 2, 0, _ | 2, 1, _ | 2, 3, _ | 2, _ + 4, _ => rfl
  | 3, 0, _ | 3, 1, _ | 3, 2, _ | 3, _ + 4, _ => rfl
  | _ + 4, _, _ => rfl
section PP
variable {h : AHp} {a s : Nat} {f : Int32} {P : Nat → Int32} {Q : Option Value → AHp → Prop}
def maB (m x : Int32) : Bool := x != -1 && hasB m x
theorem pX2_firstOf {m : Int32} (ha : aGet h a = some (.inr (2, [.ref s, .int f]))) (hs : aGet h s = some (.inl (.int, 12, .inl P))) (hQ : Q (some (.int (fstI (fun p => maB m (P p)) 12))) h) : AMet mX2_firstOf 2 0 0 [.ref a, .int m] h Q := by
  refine AMet.ofRch rfl rfl (Nat.le_of_ble_eq_true rfl) ?_
  refine r_iconst 0 dX2_firstOf_0 (by decide) ?_
  refine r_istore_n dX2_firstOf_1 (Nat.le_of_ble_eq_true rfl) ?_
  refine loopUp (N := 12) (P := fun k => Q (some (.int (fstG (fun p => maB m (P p)) (12 - k) k))) h → Rch (mX2_firstOf, 2, 0, 0, oQ Q) 0 0 2 [some (.ref a), some (.int m), some (.int (nI k))] [] h) ?_ ?_ hQ
  · intro hq
    refine r_iload_n dX2_firstOf_2 rfl ?_
    refine r_bipush 12 dX2_firstOf_3 (by decide) ?_
    refine r_icmp_ge 39 dX2_firstOf_5 (by decide) (fun _ => ?_) (fun c_ => absurd (geT 12) c_)
    refine r_iconst (-1) dX2_firstOf_39 (by decide) ?_
    exact r_iret dX2_firstOf_40 rfl (Nat.le_of_ble_eq_true rfl) (Nat.le_of_ble_eq_true rfl) (hq)
  · intro k hk ih hq
    refine r_iload_n dX2_firstOf_2 rfl ?_
    refine r_bipush 12 dX2_firstOf_3 (by decide) ?_
    refine r_icmp_ge 39 dX2_firstOf_5 (by decide) (fun c_ => absurd c_ (geF hk (by decide))) (fun _ => ?_)
    refine r_aload_n dX2_firstOf_8 rfl ?_
    refine r_get bX2 0 (by decide) q142 dX2_firstOf_9 ha rfl ?_
    refine r_iload_n dX2_firstOf_12 rfl ?_
    refine r_ialdN dX2_firstOf_13 hs (by omega) (Nat.le_of_ble_eq_true rfl) ?_
    refine r_iconst (-1) dX2_firstOf_14 (by decide) ?_
    refine r_icmp_eq 33 dX2_firstOf_15 (by decide) (fun c_15 => ?_) (fun c_15 => ?_)
    · refine r_iincV dX2_firstOf_33 rfl (Nat.le_of_ble_eq_true rfl) (incN _) ?_
      refine r_goto 2 dX2_firstOf_36 (by decide) ?_
      first | (have q1 := b2i_0.mp c_28; exact ih (qv (fstG_f (c := fun p => maB m (P p)) hk (by simp [maB, q1])).symm hq)) | exact ih (qv (fstG_f (c := fun p => maB m (P p)) hk (by simp [maB, c_15])).symm hq)
    · refine r_iload_n dX2_firstOf_18 rfl ?_
      refine r_aload_n dX2_firstOf_19 rfl ?_
      refine r_get bX2 0 (by decide) q142 dX2_firstOf_20 ha rfl ?_
      refine r_iload_n dX2_firstOf_23 rfl ?_
      refine r_ialdN dX2_firstOf_24 hs (by omega) (Nat.le_of_ble_eq_true rfl) ?_
      refine r_callSN (host := "SeenInOrderOfAge") (as := [_, _]) okX0_has (List.mem_of_getElem? (i := 7) rfl) dX2_firstOf_25 (Nat.le_of_ble_eq_true rfl) rfl (Nat.le_of_ble_eq_true rfl) (Nat.le_of_ble_eq_true rfl) (Nat.le_of_ble_eq_true rfl) (pX0_has ?_)
      refine r_if_eq 33 dX2_firstOf_28 (by decide) (fun c_28 => ?_) (fun c_28 => ?_)
      · refine r_iincV dX2_firstOf_33 rfl (Nat.le_of_ble_eq_true rfl) (incN _) ?_
        refine r_goto 2 dX2_firstOf_36 (by decide) ?_
        first | (have q1 := b2i_0.mp c_28; exact ih (qv (fstG_f (c := fun p => maB m (P p)) hk (by simp [maB, q1])).symm hq)) | exact ih (qv (fstG_f (c := fun p => maB m (P p)) hk (by simp [maB, c_15])).symm hq)
      · refine r_iload_n dX2_firstOf_31 rfl ?_
        exact r_iret dX2_firstOf_32 rfl (Nat.le_of_ble_eq_true rfl) (Nat.le_of_ble_eq_true rfl) (qi (fstG_t (c := fun p => maB m (P p)) hk (by simp [maB, c_15, b2i_n.mp c_28])).symm hq)
theorem pX2_lastOf {m : Int32} (ha : aGet h a = some (.inr (2, [.ref s, .int f]))) (hs : aGet h s = some (.inl (.int, 12, .inl P))) (hQ : Q (some (.int (lstI (fun p => maB m (P p)) 12))) h) : AMet mX2_lastOf 2 0 0 [.ref a, .int m] h Q := by
  refine AMet.ofRch rfl rfl (Nat.le_of_ble_eq_true rfl) ?_
  refine r_bipush 11 dX2_lastOf_0 (by decide) ?_
  refine r_istore_n dX2_lastOf_2 (Nat.le_of_ble_eq_true rfl) ?_
  have main : ∀ k, k ≤ 12 → lstI (fun p => maB m (P p)) 12 = lstI (fun p => maB m (P p)) k → Rch (mX2_lastOf, 2, 0, 0, oQ Q) 0 0 3 [some (.ref a), some (.int m), some (.int (nI k - 1))] [] h := by
    intro k
    induction k with
    | zero =>
      intro _ e
      refine r_iload_n dX2_lastOf_3 rfl ?_
      refine r_if_lt 38 dX2_lastOf_4 (by decide) (fun _ => ?_) (fun c_ => absurd (by decide) c_)
      refine r_iconst (-1) dX2_lastOf_38 (by decide) ?_
      exact r_iret dX2_lastOf_39 rfl (Nat.le_of_ble_eq_true rfl) (Nat.le_of_ble_eq_true rfl) (qi e.symm hQ)
    | succ k ih =>
      intro hk e
      rw [nI_pred]
      refine r_iload_n dX2_lastOf_3 rfl ?_
      refine r_if_lt 38 dX2_lastOf_4 (by decide) (fun c_ => absurd c_ (nI_pos (by omega))) (fun _ => ?_)
      refine r_aload_n dX2_lastOf_7 rfl ?_
      refine r_get bX2 0 (by decide) q142 dX2_lastOf_8 ha rfl ?_
      refine r_iload_n dX2_lastOf_11 rfl ?_
      refine r_ialdN dX2_lastOf_12 hs (by omega) (Nat.le_of_ble_eq_true rfl) ?_
      refine r_iconst (-1) dX2_lastOf_13 (by decide) ?_
      refine r_icmp_eq 32 dX2_lastOf_14 (by decide) (fun c_14 => ?_) (fun c_14 => ?_)
      · refine r_iincV dX2_lastOf_32 rfl (Nat.le_of_ble_eq_true rfl) (decS _) ?_
        refine r_goto 3 dX2_lastOf_35 (by decide) ?_
        refine ih (by omega) (e.trans ?_)
        first | (have q1 := b2i_0.mp c_27; simp [lstI, maB, q1]) | simp [lstI, maB, c_14]
      · refine r_iload_n dX2_lastOf_17 rfl ?_
        refine r_aload_n dX2_lastOf_18 rfl ?_
        refine r_get bX2 0 (by decide) q142 dX2_lastOf_19 ha rfl ?_
        refine r_iload_n dX2_lastOf_22 rfl ?_
        refine r_ialdN dX2_lastOf_23 hs (by omega) (Nat.le_of_ble_eq_true rfl) ?_
        refine r_callSN (host := "SeenInOrderOfAge") (as := [_, _]) okX0_has (List.mem_of_getElem? (i := 7) rfl) dX2_lastOf_24 (Nat.le_of_ble_eq_true rfl) rfl (Nat.le_of_ble_eq_true rfl) (Nat.le_of_ble_eq_true rfl) (Nat.le_of_ble_eq_true rfl) (pX0_has ?_)
        refine r_if_eq 32 dX2_lastOf_27 (by decide) (fun c_27 => ?_) (fun c_27 => ?_)
        · refine r_iincV dX2_lastOf_32 rfl (Nat.le_of_ble_eq_true rfl) (decS _) ?_
          refine r_goto 3 dX2_lastOf_35 (by decide) ?_
          refine ih (by omega) (e.trans ?_)
          first | (have q1 := b2i_0.mp c_27; simp [lstI, maB, q1]) | simp [lstI, maB, c_14]
        · refine r_iload_n dX2_lastOf_30 rfl ?_
          exact r_iret dX2_lastOf_31 rfl (Nat.le_of_ble_eq_true rfl) (Nat.le_of_ble_eq_true rfl) (qi (by rw [e]; simp [lstI, maB, c_14, b2i_n.mp c_27]) hQ)
  exact main 12 (Nat.le_refl _) rfl
theorem pX2_things (ha : aGet h a = some (.inr (2, [.ref s, .int f]))) (hs : aGet h s = some (.inl (.int, 12, .inl P))) (hQ : Q (some (.int (bitsI (fun p => P p != -1) 12))) h) : AMet mX2_things 1 0 0 [.ref a] h Q := by
  refine AMet.ofRch rfl rfl (Nat.le_of_ble_eq_true rfl) ?_
  refine r_iconst 0 dX2_things_0 (by decide) ?_
  refine r_istore_n dX2_things_1 (Nat.le_of_ble_eq_true rfl) ?_
  refine r_iconst 0 dX2_things_2 (by decide) ?_
  refine r_istore_n dX2_things_3 (Nat.le_of_ble_eq_true rfl) ?_
  refine loopUp (N := 12) (P := fun k => Rch (mX2_things, 1, 0, 0, oQ Q) 0 0 4 [some (.ref a), some (.int (bitsI (fun p => P p != -1) k)), some (.int (nI k))] [] h) ?_ ?_
  · refine r_iload_n dX2_things_4 rfl ?_
    refine r_bipush 12 dX2_things_5 (by decide) ?_
    refine r_icmp_ge 36 dX2_things_7 (by decide) (fun _ => ?_) (fun c_ => absurd (geT 12) c_)
    refine r_iload_n dX2_things_36 rfl ?_
    exact r_iret dX2_things_37 rfl (Nat.le_of_ble_eq_true rfl) (Nat.le_of_ble_eq_true rfl) (hQ)
  · intro k hk ih
    simp only [bitsI] at ih
    refine r_iload_n dX2_things_4 rfl ?_
    refine r_bipush 12 dX2_things_5 (by decide) ?_
    refine r_icmp_ge 36 dX2_things_7 (by decide) (fun c_ => absurd c_ (geF hk (by decide))) (fun _ => ?_)
    refine r_iload_n dX2_things_10 rfl ?_
    refine r_aload_n dX2_things_11 rfl ?_
    refine r_get bX2 0 (by decide) q142 dX2_things_12 ha rfl ?_
    refine r_iload_n dX2_things_15 rfl ?_
    refine r_ialdN dX2_things_16 hs (by omega) (Nat.le_of_ble_eq_true rfl) ?_
    refine r_iconst (-1) dX2_things_17 (by decide) ?_
    refine r_icmp_eq 27 dX2_things_18 (by decide) (fun c_18 => ?_) (fun c_18 => ?_)
    · refine r_iconst 0 dX2_things_27 (by decide) ?_
      refine r_ior dX2_things_28 ?_
      refine r_istore_n dX2_things_29 (Nat.le_of_ble_eq_true rfl) ?_
      refine r_iincV dX2_things_30 rfl (Nat.le_of_ble_eq_true rfl) (incN _) ?_
      refine r_goto 4 dX2_things_33 (by decide) ?_
      first | (have q1 : (P k != -1) = true := (by simpa using c_18); rw [if_pos q1] at ih; exact ih) | (have q1 : ¬ (P k != -1) = true := (by simpa using c_18); rw [if_neg q1] at ih; exact ih)
    · refine r_iconst 1 dX2_things_21 (by decide) ?_
      refine r_iload_n dX2_things_22 rfl ?_
      refine r_ishl dX2_things_23 ?_
      refine r_goto 28 dX2_things_24 (by decide) ?_
      refine r_ior dX2_things_28 ?_
      refine r_istore_n dX2_things_29 (Nat.le_of_ble_eq_true rfl) ?_
      refine r_iincV dX2_things_30 rfl (Nat.le_of_ble_eq_true rfl) (incN _) ?_
      refine r_goto 4 dX2_things_33 (by decide) ?_
      first | (have q1 : (P k != -1) = true := (by simpa using c_18); rw [if_pos q1] at ih; exact ih) | (have q1 : ¬ (P k != -1) = true := (by simpa using c_18); rw [if_neg q1] at ih; exact ih)
theorem pX2_many {x : Int32} (ha : aGet h a = some (.inr (2, [.ref s, .int f]))) (hs : aGet h s = some (.inl (.int, 12, .inl P))) (hQ : Q (some (.int (nI (cntI (fun p => P p == x) 12)))) h) : AMet mX2_many 1 0 0 [.ref a, .int x] h Q := by
  refine AMet.ofRch rfl rfl (Nat.le_of_ble_eq_true rfl) ?_
  refine r_iconst 0 dX2_many_0 (by decide) ?_
  refine r_istore_n dX2_many_1 (Nat.le_of_ble_eq_true rfl) ?_
  refine r_aload_n dX2_many_2 rfl ?_
  refine r_get bX2 0 (by decide) q142 dX2_many_3 ha rfl ?_
  refine r_astore_n dX2_many_6 (Nat.le_of_ble_eq_true rfl) ?_
  refine r_aload_n dX2_many_7 rfl ?_
  refine r_alen dX2_many_8 hs 0 rfl ?_
  refine r_istore dX2_many_9 (Nat.le_of_ble_eq_true rfl) ?_
  refine r_iconst 0 dX2_many_11 (by decide) ?_
  refine r_istore dX2_many_12 (Nat.le_of_ble_eq_true rfl) ?_
  refine loopUp (N := 12) (P := fun k => ∀ y : Option Value, Rch (mX2_many, 1, 0, 0, oQ Q) 0 0 14 [some (.ref a), some (.int x), some (.int (nI (cntI (fun p => P p == x) k))), some (.ref s), some (.int (nI 12)), some (.int (nI k)), y] [] h) ?_ ?_ none
  · intro y
    refine r_iload dX2_many_14 rfl ?_
    refine r_iload dX2_many_16 rfl ?_
    refine r_icmp_ge 47 dX2_many_18 (by decide) (fun _ => ?_) (fun c_ => absurd (geT 12) c_)
    refine r_iload_n dX2_many_47 rfl ?_
    exact r_iret dX2_many_48 rfl (Nat.le_of_ble_eq_true rfl) (Nat.le_of_ble_eq_true rfl) (hQ)
  · intro k hk ih y
    refine r_iload dX2_many_14 rfl ?_
    refine r_iload dX2_many_16 rfl ?_
    refine r_icmp_ge 47 dX2_many_18 (by decide) (fun c_ => absurd c_ (geF hk (by decide))) (fun _ => ?_)
    refine r_aload_n dX2_many_21 rfl ?_
    refine r_iload dX2_many_22 rfl ?_
    refine r_ialdN dX2_many_24 hs (by omega) (Nat.le_of_ble_eq_true rfl) ?_
    refine r_istore dX2_many_25 (Nat.le_of_ble_eq_true rfl) ?_
    refine r_iload_n dX2_many_27 rfl ?_
    refine r_iload dX2_many_28 rfl ?_
    refine r_iload_n dX2_many_30 rfl ?_
    refine r_icmp_ne 38 dX2_many_31 (by decide) (fun c_31 => ?_) (fun c_31 => ?_)
    · refine r_iconst 0 dX2_many_38 (by decide) ?_
      refine r_iadd dX2_many_39 ?_
      first | rw [nI_1] | rw [Int32.add_zero]
      refine r_istore_n dX2_many_40 (Nat.le_of_ble_eq_true rfl) ?_
      refine r_iincV dX2_many_41 rfl (Nat.le_of_ble_eq_true rfl) (incN _) ?_
      refine r_goto 14 dX2_many_44 (by decide) ?_
      first | (have q1 : (P k == x) = true := (by simpa using c_31); simp only [cntI, q1, if_true] at ih; exact ih _) | (have q1 : (P k == x) = false := (by simpa using c_31); simp only [cntI, q1, Bool.false_eq_true, if_false, Nat.add_zero] at ih; exact ih _)
    · refine r_iconst 1 dX2_many_34 (by decide) ?_
      refine r_goto 39 dX2_many_35 (by decide) ?_
      refine r_iadd dX2_many_39 ?_
      first | rw [nI_1] | rw [Int32.add_zero]
      refine r_istore_n dX2_many_40 (Nat.le_of_ble_eq_true rfl) ?_
      refine r_iincV dX2_many_41 rfl (Nat.le_of_ble_eq_true rfl) (incN _) ?_
      refine r_goto 14 dX2_many_44 (by decide) ?_
      first | (have q1 : (P k == x) = true := (by simpa using c_31); simp only [cntI, q1, if_true] at ih; exact ih _) | (have q1 : (P k == x) = false := (by simpa using c_31); simp only [cntI, q1, Bool.false_eq_true, if_false, Nat.add_zero] at ih; exact ih _)
theorem pX2_takes0 (hQ : Q (some (.int 0)) h) : AMet mX2_takes 1 0 0 [.ref a, .int (-1)] h Q := by
  refine AMet.ofRch rfl rfl (Nat.le_of_ble_eq_true rfl) ?_
  refine r_iload_n dX2_takes_0 rfl ?_
  refine r_iconst (-1) dX2_takes_1 (by decide) ?_
  refine r_icmp_ne 7 dX2_takes_2 (by decide) (fun c_ => absurd (rfl) c_) (fun _ => ?_)
  refine r_iconst 0 dX2_takes_5 (by decide) ?_
  exact r_iret dX2_takes_6 rfl (Nat.le_of_ble_eq_true rfl) (Nat.le_of_ble_eq_true rfl) (hQ)
theorem pX2_takes {q : Nat} (hq : q < 12) (ha : aGet h a = some (.inr (2, [.ref s, .int f]))) (hs : aGet h s = some (.inl (.int, 12, .inl P))) (hne : a ≠ s) (hQ : Q (some (.int (1 <<< (nI q &&& 31)))) (aSet (aSet h a (.inr (2, [.ref s, .int (if f = -1 then nI q else f)]))) s (.inl (.int, 12, .inl (upd P q (-1)))))) : AMet mX2_takes 1 0 0 [.ref a, .int (nI q)] h Q := by
  refine AMet.ofRch rfl rfl (Nat.le_of_ble_eq_true rfl) ?_
  by_cases g : f = -1
  · rw [if_pos g] at hQ
    refine r_iload_n dX2_takes_0 rfl ?_
    refine r_iconst (-1) dX2_takes_1 (by decide) ?_
    refine r_icmp_ne 7 dX2_takes_2 (by decide) (fun _ => ?_) (fun c_ => absurd c_ (nI_m1 (by omega)))
    refine r_aload_n dX2_takes_7 rfl ?_
    refine r_aload_n dX2_takes_8 rfl ?_
    refine r_get bX2 1 (by decide) q148 dX2_takes_9 ha rfl ?_
    refine r_iconst (-1) dX2_takes_12 (by decide) ?_
    refine r_icmp_ne 20 dX2_takes_13 (by decide) (fun c_ => absurd (g) c_) (fun _ => ?_)
    refine r_iload_n dX2_takes_16 rfl ?_
    refine r_goto 24 dX2_takes_17 (by decide) ?_
    refine r_put bX2 1 (by decide) rfl q148 dX2_takes_24 rfl rfl ha (Nat.le_of_ble_eq_true rfl) ?_
    refine r_aload_n dX2_takes_27 rfl ?_
    refine r_get bX2 0 (by decide) q142 dX2_takes_28 (aGet_same ha) rfl ?_
    refine r_iload_n dX2_takes_31 rfl ?_
    refine r_iconst (-1) dX2_takes_32 (by decide) ?_
    refine r_iastN dX2_takes_33 ((aGet_ne hne).trans hs) (by omega) (Nat.le_of_ble_eq_true rfl) ?_
    refine r_iconst 1 dX2_takes_34 (by decide) ?_
    refine r_iload_n dX2_takes_35 rfl ?_
    refine r_ishl dX2_takes_36 ?_
    exact r_iret dX2_takes_37 rfl (Nat.le_of_ble_eq_true rfl) (Nat.le_of_ble_eq_true rfl) (hQ)
  · rw [if_neg g] at hQ
    refine r_iload_n dX2_takes_0 rfl ?_
    refine r_iconst (-1) dX2_takes_1 (by decide) ?_
    refine r_icmp_ne 7 dX2_takes_2 (by decide) (fun _ => ?_) (fun c_ => absurd c_ (nI_m1 (by omega)))
    refine r_aload_n dX2_takes_7 rfl ?_
    refine r_aload_n dX2_takes_8 rfl ?_
    refine r_get bX2 1 (by decide) q148 dX2_takes_9 ha rfl ?_
    refine r_iconst (-1) dX2_takes_12 (by decide) ?_
    refine r_icmp_ne 20 dX2_takes_13 (by decide) (fun _ => ?_) (fun c_ => absurd c_ (g))
    refine r_aload_n dX2_takes_20 rfl ?_
    refine r_get bX2 1 (by decide) q148 dX2_takes_21 ha rfl ?_
    refine r_put bX2 1 (by decide) rfl q148 dX2_takes_24 rfl rfl ha (Nat.le_of_ble_eq_true rfl) ?_
    refine r_aload_n dX2_takes_27 rfl ?_
    refine r_get bX2 0 (by decide) q142 dX2_takes_28 (aGet_same ha) rfl ?_
    refine r_iload_n dX2_takes_31 rfl ?_
    refine r_iconst (-1) dX2_takes_32 (by decide) ?_
    refine r_iastN dX2_takes_33 ((aGet_ne hne).trans hs) (by omega) (Nat.le_of_ble_eq_true rfl) ?_
    refine r_iconst 1 dX2_takes_34 (by decide) ?_
    refine r_iload_n dX2_takes_35 rfl ?_
    refine r_ishl dX2_takes_36 ?_
    exact r_iret dX2_takes_37 rfl (Nat.le_of_ble_eq_true rfl) (Nat.le_of_ble_eq_true rfl) (hQ)
end PP
