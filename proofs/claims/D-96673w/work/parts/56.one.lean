set_option maxRecDepth 100000
/-! the component: one look -/
section PP
variable {h : AHp} {a s : Nat} {f : Int32} {P : Nat → Int32} {Q : Option Value → AHp → Prop}
theorem pX7_one_X7 {o w : Nat} {nu lk : Int32} (hw : w < 8) (ho : aGet h o = some (.inr (7, [.int nu, .int (nI w)]))) (ha : aGet h a = some (.inr (2, [.ref s, .int f]))) (hs : aGet h s = some (.inl (.int, 12, .inl P))) (hne : a ≠ s) (hP : ThI P) (h0 : loF (nI w) lk P = -1 → Q (some (.int 0)) h) (h1 : ∀ q, q < 12 → loF (nI w) lk P = nI q → Q (some (.int (1 <<< (nI q &&& 31)))) (aSet (aSet h a (.inr (2, [.ref s, .int (if f = -1 then nI q else f)]))) s (.inl (.int, 12, .inl (upd P q (-1)))))) : AMet mX7_one 3 0 0 [.ref o, .ref a, .int (lk ||| (1 <<< (nI w &&& 31)))] h Q := by
  refine AMet.ofRch rfl rfl (Nat.le_of_ble_eq_true rfl) ?_
  by_cases g : fwF P (nI w) = -1
  · have eL : fstI (fun q => likeB (nI w) lk (P q)) 12 = loF (nI w) lk P := (if_pos g).symm
    rcases lo_PlN (nI w) lk P with e | ⟨q, hq, e⟩
    · refine r_aload_n dX7_one_0 rfl ?_
      refine r_iconst 1 dX7_one_1 (by decide) ?_
      refine r_aload_n dX7_one_2 rfl ?_
      refine r_get bX7 1 (by decide) q675 dX7_one_3 ho rfl ?_
      refine r_ishl dX7_one_6 ?_
      refine r_callV (as := [_]) okX2_firstOf bX2 rfl ha q640 dX7_one_7 (Nat.le_of_ble_eq_true rfl) rfl (Nat.le_of_ble_eq_true rfl) (Nat.le_of_ble_eq_true rfl) (Nat.le_of_ble_eq_true rfl) (pX2_firstOf ha hs ?_)
      rw [fw_ma hw rfl hP]
      refine r_istore_n dX7_one_10 (Nat.le_of_ble_eq_true rfl) ?_
      refine r_aload_n dX7_one_11 rfl ?_
      refine r_iload_n dX7_one_12 rfl ?_
      refine r_iconst (-1) dX7_one_13 (by decide) ?_
      refine r_icmp_eq 21 dX7_one_14 (by decide) (fun _ => ?_) (fun c_ => absurd (g) c_)
      refine r_aload_n dX7_one_21 rfl ?_
      refine r_iload_n dX7_one_22 rfl ?_
      refine r_callV (as := [_]) okX2_firstOf bX2 rfl ha q640 dX7_one_23 (Nat.le_of_ble_eq_true rfl) rfl (Nat.le_of_ble_eq_true rfl) (Nat.le_of_ble_eq_true rfl) (Nat.le_of_ble_eq_true rfl) (pX2_firstOf ha hs ?_)
      rw [li_ma hw rfl hP, eL, e]
      refine r_callV (as := [_]) okX2_takes bX2 rfl ha q641 dX7_one_26 (Nat.le_of_ble_eq_true rfl) rfl (Nat.le_of_ble_eq_true rfl) (Nat.le_of_ble_eq_true rfl) (Nat.le_of_ble_eq_true rfl) (pX2_takes0 ?_)
      exact r_iret dX7_one_29 rfl (Nat.le_of_ble_eq_true rfl) (Nat.le_of_ble_eq_true rfl) (h0 e)
    · refine r_aload_n dX7_one_0 rfl ?_
      refine r_iconst 1 dX7_one_1 (by decide) ?_
      refine r_aload_n dX7_one_2 rfl ?_
      refine r_get bX7 1 (by decide) q675 dX7_one_3 ho rfl ?_
      refine r_ishl dX7_one_6 ?_
      refine r_callV (as := [_]) okX2_firstOf bX2 rfl ha q640 dX7_one_7 (Nat.le_of_ble_eq_true rfl) rfl (Nat.le_of_ble_eq_true rfl) (Nat.le_of_ble_eq_true rfl) (Nat.le_of_ble_eq_true rfl) (pX2_firstOf ha hs ?_)
      rw [fw_ma hw rfl hP]
      refine r_istore_n dX7_one_10 (Nat.le_of_ble_eq_true rfl) ?_
      refine r_aload_n dX7_one_11 rfl ?_
      refine r_iload_n dX7_one_12 rfl ?_
      refine r_iconst (-1) dX7_one_13 (by decide) ?_
      refine r_icmp_eq 21 dX7_one_14 (by decide) (fun _ => ?_) (fun c_ => absurd (g) c_)
      refine r_aload_n dX7_one_21 rfl ?_
      refine r_iload_n dX7_one_22 rfl ?_
      refine r_callV (as := [_]) okX2_firstOf bX2 rfl ha q640 dX7_one_23 (Nat.le_of_ble_eq_true rfl) rfl (Nat.le_of_ble_eq_true rfl) (Nat.le_of_ble_eq_true rfl) (Nat.le_of_ble_eq_true rfl) (pX2_firstOf ha hs ?_)
      rw [li_ma hw rfl hP, eL, e]
      refine r_callV (as := [_]) okX2_takes bX2 rfl ha q641 dX7_one_26 (Nat.le_of_ble_eq_true rfl) rfl (Nat.le_of_ble_eq_true rfl) (Nat.le_of_ble_eq_true rfl) (Nat.le_of_ble_eq_true rfl) (pX2_takes hq ha hs hne ?_)
      exact r_iret dX7_one_29 rfl (Nat.le_of_ble_eq_true rfl) (Nat.le_of_ble_eq_true rfl) (h1 q hq e)
  · have eL : fwF P (nI w) = loF (nI w) lk P := (if_neg g).symm
    rcases lo_PlN (nI w) lk P with e | ⟨q, hq, e⟩
    · exact absurd (eL.trans e) g
    · refine r_aload_n dX7_one_0 rfl ?_
      refine r_iconst 1 dX7_one_1 (by decide) ?_
      refine r_aload_n dX7_one_2 rfl ?_
      refine r_get bX7 1 (by decide) q675 dX7_one_3 ho rfl ?_
      refine r_ishl dX7_one_6 ?_
      refine r_callV (as := [_]) okX2_firstOf bX2 rfl ha q640 dX7_one_7 (Nat.le_of_ble_eq_true rfl) rfl (Nat.le_of_ble_eq_true rfl) (Nat.le_of_ble_eq_true rfl) (Nat.le_of_ble_eq_true rfl) (pX2_firstOf ha hs ?_)
      rw [fw_ma hw rfl hP]
      refine r_istore_n dX7_one_10 (Nat.le_of_ble_eq_true rfl) ?_
      refine r_aload_n dX7_one_11 rfl ?_
      refine r_iload_n dX7_one_12 rfl ?_
      refine r_iconst (-1) dX7_one_13 (by decide) ?_
      refine r_icmp_eq 21 dX7_one_14 (by decide) (fun c_ => absurd c_ (g)) (fun _ => ?_)
      refine r_iload_n dX7_one_17 rfl ?_
      refine r_goto 26 dX7_one_18 (by decide) ?_
      rw [eL, e]
      refine r_callV (as := [_]) okX2_takes bX2 rfl ha q641 dX7_one_26 (Nat.le_of_ble_eq_true rfl) rfl (Nat.le_of_ble_eq_true rfl) (Nat.le_of_ble_eq_true rfl) (Nat.le_of_ble_eq_true rfl) (pX2_takes hq ha hs hne ?_)
      exact r_iret dX7_one_29 rfl (Nat.le_of_ble_eq_true rfl) (Nat.le_of_ble_eq_true rfl) (h1 q hq e)
theorem pX7_one_X8 {o w : Nat} {nu lk : Int32} (hw : w < 8) (ho : aGet h o = some (.inr (8, [.int nu, .int (nI w)]))) (ha : aGet h a = some (.inr (2, [.ref s, .int f]))) (hs : aGet h s = some (.inl (.int, 12, .inl P))) (hne : a ≠ s) (hP : ThI P) (h0 : loF (nI w) lk P = -1 → Q (some (.int 0)) h) (h1 : ∀ q, q < 12 → loF (nI w) lk P = nI q → Q (some (.int (1 <<< (nI q &&& 31)))) (aSet (aSet h a (.inr (2, [.ref s, .int (if f = -1 then nI q else f)]))) s (.inl (.int, 12, .inl (upd P q (-1)))))) : AMet mX7_one 3 0 0 [.ref o, .ref a, .int (lk ||| (1 <<< (nI w &&& 31)))] h Q := by
  refine AMet.ofRch rfl rfl (Nat.le_of_ble_eq_true rfl) ?_
  by_cases g : fwF P (nI w) = -1
  · have eL : fstI (fun q => likeB (nI w) lk (P q)) 12 = loF (nI w) lk P := (if_pos g).symm
    rcases lo_PlN (nI w) lk P with e | ⟨q, hq, e⟩
    · refine r_aload_n dX7_one_0 rfl ?_
      refine r_iconst 1 dX7_one_1 (by decide) ?_
      refine r_aload_n dX7_one_2 rfl ?_
      refine r_get bX8 1 (by decide) q675 dX7_one_3 ho rfl ?_
      refine r_ishl dX7_one_6 ?_
      refine r_callV (as := [_]) okX2_firstOf bX2 rfl ha q640 dX7_one_7 (Nat.le_of_ble_eq_true rfl) rfl (Nat.le_of_ble_eq_true rfl) (Nat.le_of_ble_eq_true rfl) (Nat.le_of_ble_eq_true rfl) (pX2_firstOf ha hs ?_)
      rw [fw_ma hw rfl hP]
      refine r_istore_n dX7_one_10 (Nat.le_of_ble_eq_true rfl) ?_
      refine r_aload_n dX7_one_11 rfl ?_
      refine r_iload_n dX7_one_12 rfl ?_
      refine r_iconst (-1) dX7_one_13 (by decide) ?_
      refine r_icmp_eq 21 dX7_one_14 (by decide) (fun _ => ?_) (fun c_ => absurd (g) c_)
      refine r_aload_n dX7_one_21 rfl ?_
      refine r_iload_n dX7_one_22 rfl ?_
      refine r_callV (as := [_]) okX2_firstOf bX2 rfl ha q640 dX7_one_23 (Nat.le_of_ble_eq_true rfl) rfl (Nat.le_of_ble_eq_true rfl) (Nat.le_of_ble_eq_true rfl) (Nat.le_of_ble_eq_true rfl) (pX2_firstOf ha hs ?_)
      rw [li_ma hw rfl hP, eL, e]
      refine r_callV (as := [_]) okX2_takes bX2 rfl ha q641 dX7_one_26 (Nat.le_of_ble_eq_true rfl) rfl (Nat.le_of_ble_eq_true rfl) (Nat.le_of_ble_eq_true rfl) (Nat.le_of_ble_eq_true rfl) (pX2_takes0 ?_)
      exact r_iret dX7_one_29 rfl (Nat.le_of_ble_eq_true rfl) (Nat.le_of_ble_eq_true rfl) (h0 e)
    · refine r_aload_n dX7_one_0 rfl ?_
      refine r_iconst 1 dX7_one_1 (by decide) ?_
      refine r_aload_n dX7_one_2 rfl ?_
      refine r_get bX8 1 (by decide) q675 dX7_one_3 ho rfl ?_
      refine r_ishl dX7_one_6 ?_
      refine r_callV (as := [_]) okX2_firstOf bX2 rfl ha q640 dX7_one_7 (Nat.le_of_ble_eq_true rfl) rfl (Nat.le_of_ble_eq_true rfl) (Nat.le_of_ble_eq_true rfl) (Nat.le_of_ble_eq_true rfl) (pX2_firstOf ha hs ?_)
      rw [fw_ma hw rfl hP]
      refine r_istore_n dX7_one_10 (Nat.le_of_ble_eq_true rfl) ?_
      refine r_aload_n dX7_one_11 rfl ?_
      refine r_iload_n dX7_one_12 rfl ?_
      refine r_iconst (-1) dX7_one_13 (by decide) ?_
      refine r_icmp_eq 21 dX7_one_14 (by decide) (fun _ => ?_) (fun c_ => absurd (g) c_)
      refine r_aload_n dX7_one_21 rfl ?_
      refine r_iload_n dX7_one_22 rfl ?_
      refine r_callV (as := [_]) okX2_firstOf bX2 rfl ha q640 dX7_one_23 (Nat.le_of_ble_eq_true rfl) rfl (Nat.le_of_ble_eq_true rfl) (Nat.le_of_ble_eq_true rfl) (Nat.le_of_ble_eq_true rfl) (pX2_firstOf ha hs ?_)
      rw [li_ma hw rfl hP, eL, e]
      refine r_callV (as := [_]) okX2_takes bX2 rfl ha q641 dX7_one_26 (Nat.le_of_ble_eq_true rfl) rfl (Nat.le_of_ble_eq_true rfl) (Nat.le_of_ble_eq_true rfl) (Nat.le_of_ble_eq_true rfl) (pX2_takes hq ha hs hne ?_)
      exact r_iret dX7_one_29 rfl (Nat.le_of_ble_eq_true rfl) (Nat.le_of_ble_eq_true rfl) (h1 q hq e)
  · have eL : fwF P (nI w) = loF (nI w) lk P := (if_neg g).symm
    rcases lo_PlN (nI w) lk P with e | ⟨q, hq, e⟩
    · exact absurd (eL.trans e) g
    · refine r_aload_n dX7_one_0 rfl ?_
      refine r_iconst 1 dX7_one_1 (by decide) ?_
      refine r_aload_n dX7_one_2 rfl ?_
      refine r_get bX8 1 (by decide) q675 dX7_one_3 ho rfl ?_
      refine r_ishl dX7_one_6 ?_
      refine r_callV (as := [_]) okX2_firstOf bX2 rfl ha q640 dX7_one_7 (Nat.le_of_ble_eq_true rfl) rfl (Nat.le_of_ble_eq_true rfl) (Nat.le_of_ble_eq_true rfl) (Nat.le_of_ble_eq_true rfl) (pX2_firstOf ha hs ?_)
      rw [fw_ma hw rfl hP]
      refine r_istore_n dX7_one_10 (Nat.le_of_ble_eq_true rfl) ?_
      refine r_aload_n dX7_one_11 rfl ?_
      refine r_iload_n dX7_one_12 rfl ?_
      refine r_iconst (-1) dX7_one_13 (by decide) ?_
      refine r_icmp_eq 21 dX7_one_14 (by decide) (fun c_ => absurd c_ (g)) (fun _ => ?_)
      refine r_iload_n dX7_one_17 rfl ?_
      refine r_goto 26 dX7_one_18 (by decide) ?_
      rw [eL, e]
      refine r_callV (as := [_]) okX2_takes bX2 rfl ha q641 dX7_one_26 (Nat.le_of_ble_eq_true rfl) rfl (Nat.le_of_ble_eq_true rfl) (Nat.le_of_ble_eq_true rfl) (Nat.le_of_ble_eq_true rfl) (pX2_takes hq ha hs hne ?_)
      exact r_iret dX7_one_29 rfl (Nat.le_of_ble_eq_true rfl) (Nat.le_of_ble_eq_true rfl) (h1 q hq e)
theorem pX7_one_X9 {o w : Nat} {nu lk : Int32} (hw : w < 8) (ho : aGet h o = some (.inr (9, [.int nu, .int (nI w)]))) (ha : aGet h a = some (.inr (2, [.ref s, .int f]))) (hs : aGet h s = some (.inl (.int, 12, .inl P))) (hne : a ≠ s) (hP : ThI P) (h0 : loF (nI w) lk P = -1 → Q (some (.int 0)) h) (h1 : ∀ q, q < 12 → loF (nI w) lk P = nI q → Q (some (.int (1 <<< (nI q &&& 31)))) (aSet (aSet h a (.inr (2, [.ref s, .int (if f = -1 then nI q else f)]))) s (.inl (.int, 12, .inl (upd P q (-1)))))) : AMet mX7_one 3 0 0 [.ref o, .ref a, .int (lk ||| (1 <<< (nI w &&& 31)))] h Q := by
  refine AMet.ofRch rfl rfl (Nat.le_of_ble_eq_true rfl) ?_
  by_cases g : fwF P (nI w) = -1
  · have eL : fstI (fun q => likeB (nI w) lk (P q)) 12 = loF (nI w) lk P := (if_pos g).symm
    rcases lo_PlN (nI w) lk P with e | ⟨q, hq, e⟩
    · refine r_aload_n dX7_one_0 rfl ?_
      refine r_iconst 1 dX7_one_1 (by decide) ?_
      refine r_aload_n dX7_one_2 rfl ?_
      refine r_get bX9 1 (by decide) q675 dX7_one_3 ho rfl ?_
      refine r_ishl dX7_one_6 ?_
      refine r_callV (as := [_]) okX2_firstOf bX2 rfl ha q640 dX7_one_7 (Nat.le_of_ble_eq_true rfl) rfl (Nat.le_of_ble_eq_true rfl) (Nat.le_of_ble_eq_true rfl) (Nat.le_of_ble_eq_true rfl) (pX2_firstOf ha hs ?_)
      rw [fw_ma hw rfl hP]
      refine r_istore_n dX7_one_10 (Nat.le_of_ble_eq_true rfl) ?_
      refine r_aload_n dX7_one_11 rfl ?_
      refine r_iload_n dX7_one_12 rfl ?_
      refine r_iconst (-1) dX7_one_13 (by decide) ?_
      refine r_icmp_eq 21 dX7_one_14 (by decide) (fun _ => ?_) (fun c_ => absurd (g) c_)
      refine r_aload_n dX7_one_21 rfl ?_
      refine r_iload_n dX7_one_22 rfl ?_
      refine r_callV (as := [_]) okX2_firstOf bX2 rfl ha q640 dX7_one_23 (Nat.le_of_ble_eq_true rfl) rfl (Nat.le_of_ble_eq_true rfl) (Nat.le_of_ble_eq_true rfl) (Nat.le_of_ble_eq_true rfl) (pX2_firstOf ha hs ?_)
      rw [li_ma hw rfl hP, eL, e]
      refine r_callV (as := [_]) okX2_takes bX2 rfl ha q641 dX7_one_26 (Nat.le_of_ble_eq_true rfl) rfl (Nat.le_of_ble_eq_true rfl) (Nat.le_of_ble_eq_true rfl) (Nat.le_of_ble_eq_true rfl) (pX2_takes0 ?_)
      exact r_iret dX7_one_29 rfl (Nat.le_of_ble_eq_true rfl) (Nat.le_of_ble_eq_true rfl) (h0 e)
    · refine r_aload_n dX7_one_0 rfl ?_
      refine r_iconst 1 dX7_one_1 (by decide) ?_
      refine r_aload_n dX7_one_2 rfl ?_
      refine r_get bX9 1 (by decide) q675 dX7_one_3 ho rfl ?_
      refine r_ishl dX7_one_6 ?_
      refine r_callV (as := [_]) okX2_firstOf bX2 rfl ha q640 dX7_one_7 (Nat.le_of_ble_eq_true rfl) rfl (Nat.le_of_ble_eq_true rfl) (Nat.le_of_ble_eq_true rfl) (Nat.le_of_ble_eq_true rfl) (pX2_firstOf ha hs ?_)
      rw [fw_ma hw rfl hP]
      refine r_istore_n dX7_one_10 (Nat.le_of_ble_eq_true rfl) ?_
      refine r_aload_n dX7_one_11 rfl ?_
      refine r_iload_n dX7_one_12 rfl ?_
      refine r_iconst (-1) dX7_one_13 (by decide) ?_
      refine r_icmp_eq 21 dX7_one_14 (by decide) (fun _ => ?_) (fun c_ => absurd (g) c_)
      refine r_aload_n dX7_one_21 rfl ?_
      refine r_iload_n dX7_one_22 rfl ?_
      refine r_callV (as := [_]) okX2_firstOf bX2 rfl ha q640 dX7_one_23 (Nat.le_of_ble_eq_true rfl) rfl (Nat.le_of_ble_eq_true rfl) (Nat.le_of_ble_eq_true rfl) (Nat.le_of_ble_eq_true rfl) (pX2_firstOf ha hs ?_)
      rw [li_ma hw rfl hP, eL, e]
      refine r_callV (as := [_]) okX2_takes bX2 rfl ha q641 dX7_one_26 (Nat.le_of_ble_eq_true rfl) rfl (Nat.le_of_ble_eq_true rfl) (Nat.le_of_ble_eq_true rfl) (Nat.le_of_ble_eq_true rfl) (pX2_takes hq ha hs hne ?_)
      exact r_iret dX7_one_29 rfl (Nat.le_of_ble_eq_true rfl) (Nat.le_of_ble_eq_true rfl) (h1 q hq e)
  · have eL : fwF P (nI w) = loF (nI w) lk P := (if_neg g).symm
    rcases lo_PlN (nI w) lk P with e | ⟨q, hq, e⟩
    · exact absurd (eL.trans e) g
    · refine r_aload_n dX7_one_0 rfl ?_
      refine r_iconst 1 dX7_one_1 (by decide) ?_
      refine r_aload_n dX7_one_2 rfl ?_
      refine r_get bX9 1 (by decide) q675 dX7_one_3 ho rfl ?_
      refine r_ishl dX7_one_6 ?_
      refine r_callV (as := [_]) okX2_firstOf bX2 rfl ha q640 dX7_one_7 (Nat.le_of_ble_eq_true rfl) rfl (Nat.le_of_ble_eq_true rfl) (Nat.le_of_ble_eq_true rfl) (Nat.le_of_ble_eq_true rfl) (pX2_firstOf ha hs ?_)
      rw [fw_ma hw rfl hP]
      refine r_istore_n dX7_one_10 (Nat.le_of_ble_eq_true rfl) ?_
      refine r_aload_n dX7_one_11 rfl ?_
      refine r_iload_n dX7_one_12 rfl ?_
      refine r_iconst (-1) dX7_one_13 (by decide) ?_
      refine r_icmp_eq 21 dX7_one_14 (by decide) (fun c_ => absurd c_ (g)) (fun _ => ?_)
      refine r_iload_n dX7_one_17 rfl ?_
      refine r_goto 26 dX7_one_18 (by decide) ?_
      rw [eL, e]
      refine r_callV (as := [_]) okX2_takes bX2 rfl ha q641 dX7_one_26 (Nat.le_of_ble_eq_true rfl) rfl (Nat.le_of_ble_eq_true rfl) (Nat.le_of_ble_eq_true rfl) (Nat.le_of_ble_eq_true rfl) (pX2_takes hq ha hs hne ?_)
      exact r_iret dX7_one_29 rfl (Nat.le_of_ble_eq_true rfl) (Nat.le_of_ble_eq_true rfl) (h1 q hq e)
theorem pX7_one_X10 {o w : Nat} {nu lk : Int32} (hw : w < 8) (ho : aGet h o = some (.inr (10, [.int nu, .int (nI w)]))) (ha : aGet h a = some (.inr (2, [.ref s, .int f]))) (hs : aGet h s = some (.inl (.int, 12, .inl P))) (hne : a ≠ s) (hP : ThI P) (h0 : loF (nI w) lk P = -1 → Q (some (.int 0)) h) (h1 : ∀ q, q < 12 → loF (nI w) lk P = nI q → Q (some (.int (1 <<< (nI q &&& 31)))) (aSet (aSet h a (.inr (2, [.ref s, .int (if f = -1 then nI q else f)]))) s (.inl (.int, 12, .inl (upd P q (-1)))))) : AMet mX7_one 3 0 0 [.ref o, .ref a, .int (lk ||| (1 <<< (nI w &&& 31)))] h Q := by
  refine AMet.ofRch rfl rfl (Nat.le_of_ble_eq_true rfl) ?_
  by_cases g : fwF P (nI w) = -1
  · have eL : fstI (fun q => likeB (nI w) lk (P q)) 12 = loF (nI w) lk P := (if_pos g).symm
    rcases lo_PlN (nI w) lk P with e | ⟨q, hq, e⟩
    · refine r_aload_n dX7_one_0 rfl ?_
      refine r_iconst 1 dX7_one_1 (by decide) ?_
      refine r_aload_n dX7_one_2 rfl ?_
      refine r_get bX10 1 (by decide) q675 dX7_one_3 ho rfl ?_
      refine r_ishl dX7_one_6 ?_
      refine r_callV (as := [_]) okX2_firstOf bX2 rfl ha q640 dX7_one_7 (Nat.le_of_ble_eq_true rfl) rfl (Nat.le_of_ble_eq_true rfl) (Nat.le_of_ble_eq_true rfl) (Nat.le_of_ble_eq_true rfl) (pX2_firstOf ha hs ?_)
      rw [fw_ma hw rfl hP]
      refine r_istore_n dX7_one_10 (Nat.le_of_ble_eq_true rfl) ?_
      refine r_aload_n dX7_one_11 rfl ?_
      refine r_iload_n dX7_one_12 rfl ?_
      refine r_iconst (-1) dX7_one_13 (by decide) ?_
      refine r_icmp_eq 21 dX7_one_14 (by decide) (fun _ => ?_) (fun c_ => absurd (g) c_)
      refine r_aload_n dX7_one_21 rfl ?_
      refine r_iload_n dX7_one_22 rfl ?_
      refine r_callV (as := [_]) okX2_firstOf bX2 rfl ha q640 dX7_one_23 (Nat.le_of_ble_eq_true rfl) rfl (Nat.le_of_ble_eq_true rfl) (Nat.le_of_ble_eq_true rfl) (Nat.le_of_ble_eq_true rfl) (pX2_firstOf ha hs ?_)
      rw [li_ma hw rfl hP, eL, e]
      refine r_callV (as := [_]) okX2_takes bX2 rfl ha q641 dX7_one_26 (Nat.le_of_ble_eq_true rfl) rfl (Nat.le_of_ble_eq_true rfl) (Nat.le_of_ble_eq_true rfl) (Nat.le_of_ble_eq_true rfl) (pX2_takes0 ?_)
      exact r_iret dX7_one_29 rfl (Nat.le_of_ble_eq_true rfl) (Nat.le_of_ble_eq_true rfl) (h0 e)
    · refine r_aload_n dX7_one_0 rfl ?_
      refine r_iconst 1 dX7_one_1 (by decide) ?_
      refine r_aload_n dX7_one_2 rfl ?_
      refine r_get bX10 1 (by decide) q675 dX7_one_3 ho rfl ?_
      refine r_ishl dX7_one_6 ?_
      refine r_callV (as := [_]) okX2_firstOf bX2 rfl ha q640 dX7_one_7 (Nat.le_of_ble_eq_true rfl) rfl (Nat.le_of_ble_eq_true rfl) (Nat.le_of_ble_eq_true rfl) (Nat.le_of_ble_eq_true rfl) (pX2_firstOf ha hs ?_)
      rw [fw_ma hw rfl hP]
      refine r_istore_n dX7_one_10 (Nat.le_of_ble_eq_true rfl) ?_
      refine r_aload_n dX7_one_11 rfl ?_
      refine r_iload_n dX7_one_12 rfl ?_
      refine r_iconst (-1) dX7_one_13 (by decide) ?_
      refine r_icmp_eq 21 dX7_one_14 (by decide) (fun _ => ?_) (fun c_ => absurd (g) c_)
      refine r_aload_n dX7_one_21 rfl ?_
      refine r_iload_n dX7_one_22 rfl ?_
      refine r_callV (as := [_]) okX2_firstOf bX2 rfl ha q640 dX7_one_23 (Nat.le_of_ble_eq_true rfl) rfl (Nat.le_of_ble_eq_true rfl) (Nat.le_of_ble_eq_true rfl) (Nat.le_of_ble_eq_true rfl) (pX2_firstOf ha hs ?_)
      rw [li_ma hw rfl hP, eL, e]
      refine r_callV (as := [_]) okX2_takes bX2 rfl ha q641 dX7_one_26 (Nat.le_of_ble_eq_true rfl) rfl (Nat.le_of_ble_eq_true rfl) (Nat.le_of_ble_eq_true rfl) (Nat.le_of_ble_eq_true rfl) (pX2_takes hq ha hs hne ?_)
      exact r_iret dX7_one_29 rfl (Nat.le_of_ble_eq_true rfl) (Nat.le_of_ble_eq_true rfl) (h1 q hq e)
  · have eL : fwF P (nI w) = loF (nI w) lk P := (if_neg g).symm
    rcases lo_PlN (nI w) lk P with e | ⟨q, hq, e⟩
    · exact absurd (eL.trans e) g
    · refine r_aload_n dX7_one_0 rfl ?_
      refine r_iconst 1 dX7_one_1 (by decide) ?_
      refine r_aload_n dX7_one_2 rfl ?_
      refine r_get bX10 1 (by decide) q675 dX7_one_3 ho rfl ?_
      refine r_ishl dX7_one_6 ?_
      refine r_callV (as := [_]) okX2_firstOf bX2 rfl ha q640 dX7_one_7 (Nat.le_of_ble_eq_true rfl) rfl (Nat.le_of_ble_eq_true rfl) (Nat.le_of_ble_eq_true rfl) (Nat.le_of_ble_eq_true rfl) (pX2_firstOf ha hs ?_)
      rw [fw_ma hw rfl hP]
      refine r_istore_n dX7_one_10 (Nat.le_of_ble_eq_true rfl) ?_
      refine r_aload_n dX7_one_11 rfl ?_
      refine r_iload_n dX7_one_12 rfl ?_
      refine r_iconst (-1) dX7_one_13 (by decide) ?_
      refine r_icmp_eq 21 dX7_one_14 (by decide) (fun c_ => absurd c_ (g)) (fun _ => ?_)
      refine r_iload_n dX7_one_17 rfl ?_
      refine r_goto 26 dX7_one_18 (by decide) ?_
      rw [eL, e]
      refine r_callV (as := [_]) okX2_takes bX2 rfl ha q641 dX7_one_26 (Nat.le_of_ble_eq_true rfl) rfl (Nat.le_of_ble_eq_true rfl) (Nat.le_of_ble_eq_true rfl) (Nat.le_of_ble_eq_true rfl) (pX2_takes hq ha hs hne ?_)
      exact r_iret dX7_one_29 rfl (Nat.le_of_ble_eq_true rfl) (Nat.le_of_ble_eq_true rfl) (h1 q hq e)
theorem pX7_one_X11 {o w : Nat} {nu lk : Int32} (hw : w < 8) (ho : aGet h o = some (.inr (11, [.int nu, .int (nI w)]))) (ha : aGet h a = some (.inr (2, [.ref s, .int f]))) (hs : aGet h s = some (.inl (.int, 12, .inl P))) (hne : a ≠ s) (hP : ThI P) (h0 : loF (nI w) lk P = -1 → Q (some (.int 0)) h) (h1 : ∀ q, q < 12 → loF (nI w) lk P = nI q → Q (some (.int (1 <<< (nI q &&& 31)))) (aSet (aSet h a (.inr (2, [.ref s, .int (if f = -1 then nI q else f)]))) s (.inl (.int, 12, .inl (upd P q (-1)))))) : AMet mX7_one 3 0 0 [.ref o, .ref a, .int (lk ||| (1 <<< (nI w &&& 31)))] h Q := by
  refine AMet.ofRch rfl rfl (Nat.le_of_ble_eq_true rfl) ?_
  by_cases g : fwF P (nI w) = -1
  · have eL : fstI (fun q => likeB (nI w) lk (P q)) 12 = loF (nI w) lk P := (if_pos g).symm
    rcases lo_PlN (nI w) lk P with e | ⟨q, hq, e⟩
    · refine r_aload_n dX7_one_0 rfl ?_
      refine r_iconst 1 dX7_one_1 (by decide) ?_
      refine r_aload_n dX7_one_2 rfl ?_
      refine r_get bX11 1 (by decide) q675 dX7_one_3 ho rfl ?_
      refine r_ishl dX7_one_6 ?_
      refine r_callV (as := [_]) okX2_firstOf bX2 rfl ha q640 dX7_one_7 (Nat.le_of_ble_eq_true rfl) rfl (Nat.le_of_ble_eq_true rfl) (Nat.le_of_ble_eq_true rfl) (Nat.le_of_ble_eq_true rfl) (pX2_firstOf ha hs ?_)
      rw [fw_ma hw rfl hP]
      refine r_istore_n dX7_one_10 (Nat.le_of_ble_eq_true rfl) ?_
      refine r_aload_n dX7_one_11 rfl ?_
      refine r_iload_n dX7_one_12 rfl ?_
      refine r_iconst (-1) dX7_one_13 (by decide) ?_
      refine r_icmp_eq 21 dX7_one_14 (by decide) (fun _ => ?_) (fun c_ => absurd (g) c_)
      refine r_aload_n dX7_one_21 rfl ?_
      refine r_iload_n dX7_one_22 rfl ?_
      refine r_callV (as := [_]) okX2_firstOf bX2 rfl ha q640 dX7_one_23 (Nat.le_of_ble_eq_true rfl) rfl (Nat.le_of_ble_eq_true rfl) (Nat.le_of_ble_eq_true rfl) (Nat.le_of_ble_eq_true rfl) (pX2_firstOf ha hs ?_)
      rw [li_ma hw rfl hP, eL, e]
      refine r_callV (as := [_]) okX2_takes bX2 rfl ha q641 dX7_one_26 (Nat.le_of_ble_eq_true rfl) rfl (Nat.le_of_ble_eq_true rfl) (Nat.le_of_ble_eq_true rfl) (Nat.le_of_ble_eq_true rfl) (pX2_takes0 ?_)
      exact r_iret dX7_one_29 rfl (Nat.le_of_ble_eq_true rfl) (Nat.le_of_ble_eq_true rfl) (h0 e)
    · refine r_aload_n dX7_one_0 rfl ?_
      refine r_iconst 1 dX7_one_1 (by decide) ?_
      refine r_aload_n dX7_one_2 rfl ?_
      refine r_get bX11 1 (by decide) q675 dX7_one_3 ho rfl ?_
      refine r_ishl dX7_one_6 ?_
      refine r_callV (as := [_]) okX2_firstOf bX2 rfl ha q640 dX7_one_7 (Nat.le_of_ble_eq_true rfl) rfl (Nat.le_of_ble_eq_true rfl) (Nat.le_of_ble_eq_true rfl) (Nat.le_of_ble_eq_true rfl) (pX2_firstOf ha hs ?_)
      rw [fw_ma hw rfl hP]
      refine r_istore_n dX7_one_10 (Nat.le_of_ble_eq_true rfl) ?_
      refine r_aload_n dX7_one_11 rfl ?_
      refine r_iload_n dX7_one_12 rfl ?_
      refine r_iconst (-1) dX7_one_13 (by decide) ?_
      refine r_icmp_eq 21 dX7_one_14 (by decide) (fun _ => ?_) (fun c_ => absurd (g) c_)
      refine r_aload_n dX7_one_21 rfl ?_
      refine r_iload_n dX7_one_22 rfl ?_
      refine r_callV (as := [_]) okX2_firstOf bX2 rfl ha q640 dX7_one_23 (Nat.le_of_ble_eq_true rfl) rfl (Nat.le_of_ble_eq_true rfl) (Nat.le_of_ble_eq_true rfl) (Nat.le_of_ble_eq_true rfl) (pX2_firstOf ha hs ?_)
      rw [li_ma hw rfl hP, eL, e]
      refine r_callV (as := [_]) okX2_takes bX2 rfl ha q641 dX7_one_26 (Nat.le_of_ble_eq_true rfl) rfl (Nat.le_of_ble_eq_true rfl) (Nat.le_of_ble_eq_true rfl) (Nat.le_of_ble_eq_true rfl) (pX2_takes hq ha hs hne ?_)
      exact r_iret dX7_one_29 rfl (Nat.le_of_ble_eq_true rfl) (Nat.le_of_ble_eq_true rfl) (h1 q hq e)
  · have eL : fwF P (nI w) = loF (nI w) lk P := (if_neg g).symm
    rcases lo_PlN (nI w) lk P with e | ⟨q, hq, e⟩
    · exact absurd (eL.trans e) g
    · refine r_aload_n dX7_one_0 rfl ?_
      refine r_iconst 1 dX7_one_1 (by decide) ?_
      refine r_aload_n dX7_one_2 rfl ?_
      refine r_get bX11 1 (by decide) q675 dX7_one_3 ho rfl ?_
      refine r_ishl dX7_one_6 ?_
      refine r_callV (as := [_]) okX2_firstOf bX2 rfl ha q640 dX7_one_7 (Nat.le_of_ble_eq_true rfl) rfl (Nat.le_of_ble_eq_true rfl) (Nat.le_of_ble_eq_true rfl) (Nat.le_of_ble_eq_true rfl) (pX2_firstOf ha hs ?_)
      rw [fw_ma hw rfl hP]
      refine r_istore_n dX7_one_10 (Nat.le_of_ble_eq_true rfl) ?_
      refine r_aload_n dX7_one_11 rfl ?_
      refine r_iload_n dX7_one_12 rfl ?_
      refine r_iconst (-1) dX7_one_13 (by decide) ?_
      refine r_icmp_eq 21 dX7_one_14 (by decide) (fun c_ => absurd c_ (g)) (fun _ => ?_)
      refine r_iload_n dX7_one_17 rfl ?_
      refine r_goto 26 dX7_one_18 (by decide) ?_
      rw [eL, e]
      refine r_callV (as := [_]) okX2_takes bX2 rfl ha q641 dX7_one_26 (Nat.le_of_ble_eq_true rfl) rfl (Nat.le_of_ble_eq_true rfl) (Nat.le_of_ble_eq_true rfl) (Nat.le_of_ble_eq_true rfl) (pX2_takes hq ha hs hne ?_)
      exact r_iret dX7_one_29 rfl (Nat.le_of_ble_eq_true rfl) (Nat.le_of_ble_eq_true rfl) (h1 q hq e)
theorem pX7_one_X12 {o w : Nat} {nu lk : Int32} (hw : w < 8) (ho : aGet h o = some (.inr (12, [.int nu, .int (nI w)]))) (ha : aGet h a = some (.inr (2, [.ref s, .int f]))) (hs : aGet h s = some (.inl (.int, 12, .inl P))) (hne : a ≠ s) (hP : ThI P) (h0 : loF (nI w) lk P = -1 → Q (some (.int 0)) h) (h1 : ∀ q, q < 12 → loF (nI w) lk P = nI q → Q (some (.int (1 <<< (nI q &&& 31)))) (aSet (aSet h a (.inr (2, [.ref s, .int (if f = -1 then nI q else f)]))) s (.inl (.int, 12, .inl (upd P q (-1)))))) : AMet mX7_one 3 0 0 [.ref o, .ref a, .int (lk ||| (1 <<< (nI w &&& 31)))] h Q := by
  refine AMet.ofRch rfl rfl (Nat.le_of_ble_eq_true rfl) ?_
  by_cases g : fwF P (nI w) = -1
  · have eL : fstI (fun q => likeB (nI w) lk (P q)) 12 = loF (nI w) lk P := (if_pos g).symm
    rcases lo_PlN (nI w) lk P with e | ⟨q, hq, e⟩
    · refine r_aload_n dX7_one_0 rfl ?_
      refine r_iconst 1 dX7_one_1 (by decide) ?_
      refine r_aload_n dX7_one_2 rfl ?_
      refine r_get bX12 1 (by decide) q675 dX7_one_3 ho rfl ?_
      refine r_ishl dX7_one_6 ?_
      refine r_callV (as := [_]) okX2_firstOf bX2 rfl ha q640 dX7_one_7 (Nat.le_of_ble_eq_true rfl) rfl (Nat.le_of_ble_eq_true rfl) (Nat.le_of_ble_eq_true rfl) (Nat.le_of_ble_eq_true rfl) (pX2_firstOf ha hs ?_)
      rw [fw_ma hw rfl hP]
      refine r_istore_n dX7_one_10 (Nat.le_of_ble_eq_true rfl) ?_
      refine r_aload_n dX7_one_11 rfl ?_
      refine r_iload_n dX7_one_12 rfl ?_
      refine r_iconst (-1) dX7_one_13 (by decide) ?_
      refine r_icmp_eq 21 dX7_one_14 (by decide) (fun _ => ?_) (fun c_ => absurd (g) c_)
      refine r_aload_n dX7_one_21 rfl ?_
      refine r_iload_n dX7_one_22 rfl ?_
      refine r_callV (as := [_]) okX2_firstOf bX2 rfl ha q640 dX7_one_23 (Nat.le_of_ble_eq_true rfl) rfl (Nat.le_of_ble_eq_true rfl) (Nat.le_of_ble_eq_true rfl) (Nat.le_of_ble_eq_true rfl) (pX2_firstOf ha hs ?_)
      rw [li_ma hw rfl hP, eL, e]
      refine r_callV (as := [_]) okX2_takes bX2 rfl ha q641 dX7_one_26 (Nat.le_of_ble_eq_true rfl) rfl (Nat.le_of_ble_eq_true rfl) (Nat.le_of_ble_eq_true rfl) (Nat.le_of_ble_eq_true rfl) (pX2_takes0 ?_)
      exact r_iret dX7_one_29 rfl (Nat.le_of_ble_eq_true rfl) (Nat.le_of_ble_eq_true rfl) (h0 e)
    · refine r_aload_n dX7_one_0 rfl ?_
      refine r_iconst 1 dX7_one_1 (by decide) ?_
      refine r_aload_n dX7_one_2 rfl ?_
      refine r_get bX12 1 (by decide) q675 dX7_one_3 ho rfl ?_
      refine r_ishl dX7_one_6 ?_
      refine r_callV (as := [_]) okX2_firstOf bX2 rfl ha q640 dX7_one_7 (Nat.le_of_ble_eq_true rfl) rfl (Nat.le_of_ble_eq_true rfl) (Nat.le_of_ble_eq_true rfl) (Nat.le_of_ble_eq_true rfl) (pX2_firstOf ha hs ?_)
      rw [fw_ma hw rfl hP]
      refine r_istore_n dX7_one_10 (Nat.le_of_ble_eq_true rfl) ?_
      refine r_aload_n dX7_one_11 rfl ?_
      refine r_iload_n dX7_one_12 rfl ?_
      refine r_iconst (-1) dX7_one_13 (by decide) ?_
      refine r_icmp_eq 21 dX7_one_14 (by decide) (fun _ => ?_) (fun c_ => absurd (g) c_)
      refine r_aload_n dX7_one_21 rfl ?_
      refine r_iload_n dX7_one_22 rfl ?_
      refine r_callV (as := [_]) okX2_firstOf bX2 rfl ha q640 dX7_one_23 (Nat.le_of_ble_eq_true rfl) rfl (Nat.le_of_ble_eq_true rfl) (Nat.le_of_ble_eq_true rfl) (Nat.le_of_ble_eq_true rfl) (pX2_firstOf ha hs ?_)
      rw [li_ma hw rfl hP, eL, e]
      refine r_callV (as := [_]) okX2_takes bX2 rfl ha q641 dX7_one_26 (Nat.le_of_ble_eq_true rfl) rfl (Nat.le_of_ble_eq_true rfl) (Nat.le_of_ble_eq_true rfl) (Nat.le_of_ble_eq_true rfl) (pX2_takes hq ha hs hne ?_)
      exact r_iret dX7_one_29 rfl (Nat.le_of_ble_eq_true rfl) (Nat.le_of_ble_eq_true rfl) (h1 q hq e)
  · have eL : fwF P (nI w) = loF (nI w) lk P := (if_neg g).symm
    rcases lo_PlN (nI w) lk P with e | ⟨q, hq, e⟩
    · exact absurd (eL.trans e) g
    · refine r_aload_n dX7_one_0 rfl ?_
      refine r_iconst 1 dX7_one_1 (by decide) ?_
      refine r_aload_n dX7_one_2 rfl ?_
      refine r_get bX12 1 (by decide) q675 dX7_one_3 ho rfl ?_
      refine r_ishl dX7_one_6 ?_
      refine r_callV (as := [_]) okX2_firstOf bX2 rfl ha q640 dX7_one_7 (Nat.le_of_ble_eq_true rfl) rfl (Nat.le_of_ble_eq_true rfl) (Nat.le_of_ble_eq_true rfl) (Nat.le_of_ble_eq_true rfl) (pX2_firstOf ha hs ?_)
      rw [fw_ma hw rfl hP]
      refine r_istore_n dX7_one_10 (Nat.le_of_ble_eq_true rfl) ?_
      refine r_aload_n dX7_one_11 rfl ?_
      refine r_iload_n dX7_one_12 rfl ?_
      refine r_iconst (-1) dX7_one_13 (by decide) ?_
      refine r_icmp_eq 21 dX7_one_14 (by decide) (fun c_ => absurd c_ (g)) (fun _ => ?_)
      refine r_iload_n dX7_one_17 rfl ?_
      refine r_goto 26 dX7_one_18 (by decide) ?_
      rw [eL, e]
      refine r_callV (as := [_]) okX2_takes bX2 rfl ha q641 dX7_one_26 (Nat.le_of_ble_eq_true rfl) rfl (Nat.le_of_ble_eq_true rfl) (Nat.le_of_ble_eq_true rfl) (Nat.le_of_ble_eq_true rfl) (pX2_takes hq ha hs hne ?_)
      exact r_iret dX7_one_29 rfl (Nat.le_of_ble_eq_true rfl) (Nat.le_of_ble_eq_true rfl) (h1 q hq e)
end PP
