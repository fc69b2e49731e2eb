set_option maxRecDepth 100000
/-! the component: who takes one, who takes two -/
section PP
variable {h : AHp} {a s : Nat} {f : Int32} {P : Nat → Int32} {Q : Option Value → AHp → Prop}
theorem pX7_takes_X7 {o w : Nat} {nu lk : Int32} (hw : w < 8) (ho : aGet h o = some (.inr (7, [.int nu, .int (nI w)]))) (ha : aGet h a = some (.inr (2, [.ref s, .int f]))) (hs : aGet h s = some (.inl (.int, 12, .inl P))) (hne : a ≠ s) (hP : ThI P) (hQ : Q (some (.int (ocF (loF (nI w) lk P) P f).2.1)) (pnS h a s (ocF (loF (nI w) lk P) P f).2.2 (ocF (loF (nI w) lk P) P f).1)) : AMet mX7_takes 4 0 0 [.ref o, .ref a, .int (lk ||| (1 <<< (nI w &&& 31)))] h Q := by
  refine AMet.ofRch rfl rfl (Nat.le_of_ble_eq_true rfl) ?_
  refine r_aload_n dX7_takes_0 rfl ?_
  refine r_aload_n dX7_takes_1 rfl ?_
  refine r_iload_n dX7_takes_2 rfl ?_
  refine r_callO (as := [_, _]) okX7_one.1 okX7_one.2.1 q633 okX7_one.2.1 okX7_one.1.1 q632 okX7_one.1.2.2.1 bX7 ho q630 dX7_takes_3 (Nat.le_of_ble_eq_true rfl) rfl (Nat.le_of_ble_eq_true rfl) (Nat.le_of_ble_eq_true rfl) (Nat.le_of_ble_eq_true rfl) (pX7_on1_X7 hw ho ha hs hne hP ?_)
  exact r_iret dX7_takes_6 rfl (Nat.le_of_ble_eq_true rfl) (Nat.le_of_ble_eq_true rfl) (hQ)
theorem pX7_takes_X8 {o w : Nat} {nu lk : Int32} (hw : w < 8) (ho : aGet h o = some (.inr (8, [.int nu, .int (nI w)]))) (ha : aGet h a = some (.inr (2, [.ref s, .int f]))) (hs : aGet h s = some (.inl (.int, 12, .inl P))) (hne : a ≠ s) (hP : ThI P) (hQ : Q (some (.int (ocF (loF (nI w) lk P) P f).2.1)) (pnS h a s (ocF (loF (nI w) lk P) P f).2.2 (ocF (loF (nI w) lk P) P f).1)) : AMet mX7_takes 4 0 0 [.ref o, .ref a, .int (lk ||| (1 <<< (nI w &&& 31)))] h Q := by
  refine AMet.ofRch rfl rfl (Nat.le_of_ble_eq_true rfl) ?_
  refine r_aload_n dX7_takes_0 rfl ?_
  refine r_aload_n dX7_takes_1 rfl ?_
  refine r_iload_n dX7_takes_2 rfl ?_
  refine r_callO (as := [_, _]) okX7_one.1 okX7_one.2.1 q633 okX7_one.2.1 okX7_one.1.1 q634 okX7_one.1.2.2.1 bX8 ho q630 dX7_takes_3 (Nat.le_of_ble_eq_true rfl) rfl (Nat.le_of_ble_eq_true rfl) (Nat.le_of_ble_eq_true rfl) (Nat.le_of_ble_eq_true rfl) (pX7_on1_X8 hw ho ha hs hne hP ?_)
  exact r_iret dX7_takes_6 rfl (Nat.le_of_ble_eq_true rfl) (Nat.le_of_ble_eq_true rfl) (hQ)
theorem pX7_takes_X10 {o w : Nat} {nu lk : Int32} (hw : w < 8) (ho : aGet h o = some (.inr (10, [.int nu, .int (nI w)]))) (ha : aGet h a = some (.inr (2, [.ref s, .int f]))) (hs : aGet h s = some (.inl (.int, 12, .inl P))) (hne : a ≠ s) (hP : ThI P) (hQ : Q (some (.int (ocF (loF (nI w) lk P) P f).2.1)) (pnS h a s (ocF (loF (nI w) lk P) P f).2.2 (ocF (loF (nI w) lk P) P f).1)) : AMet mX7_takes 4 0 0 [.ref o, .ref a, .int (lk ||| (1 <<< (nI w &&& 31)))] h Q := by
  refine AMet.ofRch rfl rfl (Nat.le_of_ble_eq_true rfl) ?_
  refine r_aload_n dX7_takes_0 rfl ?_
  refine r_aload_n dX7_takes_1 rfl ?_
  refine r_iload_n dX7_takes_2 rfl ?_
  refine r_callO (as := [_, _]) okX7_one.1 okX7_one.2.1 q633 okX7_one.2.1 okX7_one.1.1 q636 okX7_one.1.2.2.1 bX10 ho q630 dX7_takes_3 (Nat.le_of_ble_eq_true rfl) rfl (Nat.le_of_ble_eq_true rfl) (Nat.le_of_ble_eq_true rfl) (Nat.le_of_ble_eq_true rfl) (pX7_on1_X10 hw ho ha hs hne hP ?_)
  exact r_iret dX7_takes_6 rfl (Nat.le_of_ble_eq_true rfl) (Nat.le_of_ble_eq_true rfl) (hQ)
theorem pX8_takes_X8 {o w : Nat} {nu lk : Int32} (hw : w < 8) (hoa : a ≠ o) (hos : s ≠ o) (ho : aGet h o = some (.inr (8, [.int nu, .int (nI w)]))) (ha : aGet h a = some (.inr (2, [.ref s, .int (-1)]))) (hs : aGet h s = some (.inl (.int, 12, .inl P))) (hne : a ≠ s) (hP : ThI P) (hQ : Q (some (.int (goF 1 (nI w) lk (P, 0, -1)).2.1)) (pnS h a s (goF 1 (nI w) lk (P, 0, -1)).2.2 (goF 1 (nI w) lk (P, 0, -1)).1)) : AMet mX8_takes 5 0 0 [.ref o, .ref a, .int (lk ||| (1 <<< (nI w &&& 31)))] h Q := by
  refine AMet.ofRch rfl rfl (Nat.le_of_ble_eq_true rfl) ?_
  have t0 : TfI ((P, 0, -1) : EV) := ⟨fun _ => rfl, fun _ => rfl⟩
  have e1 := tk_oc (p := loF (nI w) lk P) t0
  have t1 := tk_TfI (lo_PlN (nI w) lk P) t0
  have p1 := oc_ThI (f := -1) (lo_PlN (nI w) lk P) hP
  have e0 : goF 1 (nI w) lk (P, 0, -1) = tkF (loF (nI w) lk (tkF (loF (nI w) lk P) (P, 0, -1)).1) (tkF (loF (nI w) lk P) (P, 0, -1)) := rfl
  rw [e0, tk_oc t1, e1] at hQ
  simp only [Int32.zero_or] at hQ
  have b1 := pnS_a (g := (ocF (loF (nI w) lk P) P (-1)).2.2) (R := (ocF (loF (nI w) lk P) P (-1)).1) (P := P) hne ha
  have b2 := pnS_s (g := (ocF (loF (nI w) lk P) P (-1)).2.2) (R := (ocF (loF (nI w) lk P) P (-1)).1) hne hs
  have b3 := (pnS_o (g := (ocF (loF (nI w) lk P) P (-1)).2.2) (R := (ocF (loF (nI w) lk P) P (-1)).1) hoa hos).trans ho
  refine r_aload_n dX8_takes_0 rfl ?_
  refine r_aload_n dX8_takes_1 rfl ?_
  refine r_iload_n dX8_takes_2 rfl ?_
  refine r_callP (as := [_, _]) okX7_takes.1 okX7_takes.2.1 q579 q584 (by decide) bX8 ho q583 dX8_takes_3 (Nat.le_of_ble_eq_true rfl) rfl (Nat.le_of_ble_eq_true rfl) (Nat.le_of_ble_eq_true rfl) (Nat.le_of_ble_eq_true rfl) (pX7_takes_X8 hw ho ha hs hne hP ?_)
  generalize ocF (loF (nI w) lk P) P (-1) = O1 at hQ p1 b1 b2 b3 ⊢
  refine r_istore_n dX8_takes_6 (Nat.le_of_ble_eq_true rfl) ?_
  refine r_iload_n dX8_takes_7 rfl ?_
  refine r_aload_n dX8_takes_8 rfl ?_
  refine r_aload_n dX8_takes_9 rfl ?_
  refine r_iload_n dX8_takes_10 rfl ?_
  refine r_callP (as := [_, _]) okX7_takes.1 okX7_takes.2.1 q579 q584 (by decide) bX8 b3 q583 dX8_takes_11 (Nat.le_of_ble_eq_true rfl) rfl (Nat.le_of_ble_eq_true rfl) (Nat.le_of_ble_eq_true rfl) (Nat.le_of_ble_eq_true rfl) (pX7_takes_X8 hw b3 b1 b2 hne p1 ?_)
  refine r_ior dX8_takes_14 ?_
  exact r_iret dX8_takes_15 rfl (Nat.le_of_ble_eq_true rfl) (Nat.le_of_ble_eq_true rfl) (by rw [pnS_pnS hne]; exact hQ)
theorem pX8_takes_X10 {o w : Nat} {nu lk : Int32} (hw : w < 8) (hoa : a ≠ o) (hos : s ≠ o) (ho : aGet h o = some (.inr (10, [.int nu, .int (nI w)]))) (ha : aGet h a = some (.inr (2, [.ref s, .int (-1)]))) (hs : aGet h s = some (.inl (.int, 12, .inl P))) (hne : a ≠ s) (hP : ThI P) (hQ : Q (some (.int (goF 1 (nI w) lk (P, 0, -1)).2.1)) (pnS h a s (goF 1 (nI w) lk (P, 0, -1)).2.2 (goF 1 (nI w) lk (P, 0, -1)).1)) : AMet mX8_takes 5 0 0 [.ref o, .ref a, .int (lk ||| (1 <<< (nI w &&& 31)))] h Q := by
  refine AMet.ofRch rfl rfl (Nat.le_of_ble_eq_true rfl) ?_
  have t0 : TfI ((P, 0, -1) : EV) := ⟨fun _ => rfl, fun _ => rfl⟩
  have e1 := tk_oc (p := loF (nI w) lk P) t0
  have t1 := tk_TfI (lo_PlN (nI w) lk P) t0
  have p1 := oc_ThI (f := -1) (lo_PlN (nI w) lk P) hP
  have e0 : goF 1 (nI w) lk (P, 0, -1) = tkF (loF (nI w) lk (tkF (loF (nI w) lk P) (P, 0, -1)).1) (tkF (loF (nI w) lk P) (P, 0, -1)) := rfl
  rw [e0, tk_oc t1, e1] at hQ
  simp only [Int32.zero_or] at hQ
  have b1 := pnS_a (g := (ocF (loF (nI w) lk P) P (-1)).2.2) (R := (ocF (loF (nI w) lk P) P (-1)).1) (P := P) hne ha
  have b2 := pnS_s (g := (ocF (loF (nI w) lk P) P (-1)).2.2) (R := (ocF (loF (nI w) lk P) P (-1)).1) hne hs
  have b3 := (pnS_o (g := (ocF (loF (nI w) lk P) P (-1)).2.2) (R := (ocF (loF (nI w) lk P) P (-1)).1) hoa hos).trans ho
  refine r_aload_n dX8_takes_0 rfl ?_
  refine r_aload_n dX8_takes_1 rfl ?_
  refine r_iload_n dX8_takes_2 rfl ?_
  refine r_callP (as := [_, _]) okX7_takes.1 okX7_takes.2.1 q579 q584 (by decide) bX10 ho q583 dX8_takes_3 (Nat.le_of_ble_eq_true rfl) rfl (Nat.le_of_ble_eq_true rfl) (Nat.le_of_ble_eq_true rfl) (Nat.le_of_ble_eq_true rfl) (pX7_takes_X10 hw ho ha hs hne hP ?_)
  generalize ocF (loF (nI w) lk P) P (-1) = O1 at hQ p1 b1 b2 b3 ⊢
  refine r_istore_n dX8_takes_6 (Nat.le_of_ble_eq_true rfl) ?_
  refine r_iload_n dX8_takes_7 rfl ?_
  refine r_aload_n dX8_takes_8 rfl ?_
  refine r_aload_n dX8_takes_9 rfl ?_
  refine r_iload_n dX8_takes_10 rfl ?_
  refine r_callP (as := [_, _]) okX7_takes.1 okX7_takes.2.1 q579 q584 (by decide) bX10 b3 q583 dX8_takes_11 (Nat.le_of_ble_eq_true rfl) rfl (Nat.le_of_ble_eq_true rfl) (Nat.le_of_ble_eq_true rfl) (Nat.le_of_ble_eq_true rfl) (pX7_takes_X10 hw b3 b1 b2 hne p1 ?_)
  refine r_ior dX8_takes_14 ?_
  exact r_iret dX8_takes_15 rfl (Nat.le_of_ble_eq_true rfl) (Nat.le_of_ble_eq_true rfl) (by rw [pnS_pnS hne]; exact hQ)
end PP
