set_option maxRecDepth 100000
/-! the component: the old -/
section PP
variable {h : AHp} {a s : Nat} {f : Int32} {P : Nat → Int32} {Q : Option Value → AHp → Prop}
theorem pX9_wants {o : Nat} {v : Int32} (hQ : Q (some (.int (b2i (v != -1)))) h) : AMet mX9_wants 1 0 0 [.ref o, .ref a, .int v] h Q := by
  refine AMet.ofRch rfl rfl (Nat.le_of_ble_eq_true rfl) ?_
  refine r_iload_n dX9_wants_0 rfl ?_
  refine r_iconst (-1) dX9_wants_1 (by decide) ?_
  refine r_icmp_eq 9 dX9_wants_2 (by decide) (fun c_2 => ?_) (fun c_2 => ?_)
  · refine r_iconst 0 dX9_wants_9 (by decide) ?_
    exact r_zret (ty := .boolean) dX9_wants_10 rfl (rfl) (Nat.le_of_ble_eq_true rfl) (Nat.le_of_ble_eq_true rfl) (qi (by simp [b2i, c_2]) hQ)
  · refine r_iconst 1 dX9_wants_5 (by decide) ?_
    refine r_goto 10 dX9_wants_6 (by decide) ?_
    exact r_zret (ty := .boolean) dX9_wants_10 rfl (rfl) (Nat.le_of_ble_eq_true rfl) (Nat.le_of_ble_eq_true rfl) (qi (by simp [b2i, c_2]) hQ)
theorem pX9_takes_X9 {o w : Nat} {nu lk : Int32} (hw : w < 8) (ho : aGet h o = some (.inr (9, [.int nu, .int (nI w)]))) (ha : aGet h a = some (.inr (2, [.ref s, .int (-1)]))) (hs : aGet h s = some (.inl (.int, 12, .inl P))) (hne : a ≠ s) (hP : ThI P) (hQ : Q (some (.int (goF 2 (nI w) lk (P, 0, -1)).2.1)) (pnS h a s (goF 2 (nI w) lk (P, 0, -1)).2.2 (goF 2 (nI w) lk (P, 0, -1)).1)) : AMet mX9_takes 4 0 0 [.ref o, .ref a, .int (lk ||| (1 <<< (nI w &&& 31)))] h Q := by
  refine AMet.ofRch rfl rfl (Nat.le_of_ble_eq_true rfl) ?_
  have t0 : TfI ((P, 0, -1) : EV) := ⟨fun _ => rfl, fun _ => rfl⟩
  have e0 : goF 2 (nI w) lk (P, 0, -1) = tkF (laF (nI w) lk P) (P, 0, -1) := rfl
  rw [e0, tk_oc t0] at hQ
  simp only [Int32.zero_or] at hQ
  rcases la_PlN (nI w) lk P with e | ⟨q, hq, e⟩
  · rw [e, oc_m1] at hQ
    have hQ : Q (some (.int 0)) (pnS h a s (-1) P) := hQ
    rw [pnS_id ha hs] at hQ
    refine r_aload_n dX9_takes_0 rfl ?_
    refine r_iload_n dX9_takes_1 rfl ?_
    refine r_callV (as := [_]) okX2_lastOf bX2 rfl ha q588 dX9_takes_2 (Nat.le_of_ble_eq_true rfl) rfl (Nat.le_of_ble_eq_true rfl) (Nat.le_of_ble_eq_true rfl) (Nat.le_of_ble_eq_true rfl) (pX2_lastOf ha hs ?_)
    rw [la_ma hw rfl hP, e]
    refine r_istore_n dX9_takes_5 (Nat.le_of_ble_eq_true rfl) ?_
    refine r_aload_n dX9_takes_6 rfl ?_
    refine r_aload_n dX9_takes_7 rfl ?_
    refine r_iload_n dX9_takes_8 rfl ?_
    refine r_callO (as := [_, _]) okX9_wants.1 okX9_wants.2.1 q596 okX9_wants.2.1 okX9_wants.1.1 q595 okX9_wants.1.2.2.1 bX9 ho q593 dX9_takes_9 (Nat.le_of_ble_eq_true rfl) rfl (Nat.le_of_ble_eq_true rfl) (Nat.le_of_ble_eq_true rfl) (Nat.le_of_ble_eq_true rfl) (pX9_wants ?_)
    refine r_if_eq 23 dX9_takes_12 (by decide) (fun _ => ?_) (fun c_ => absurd (b2i_0.mpr (by decide)) c_)
    refine r_iconst 0 dX9_takes_23 (by decide) ?_
    exact r_iret dX9_takes_24 rfl (Nat.le_of_ble_eq_true rfl) (Nat.le_of_ble_eq_true rfl) (hQ)
  · rw [e, oc_q (by omega)] at hQ
    refine r_aload_n dX9_takes_0 rfl ?_
    refine r_iload_n dX9_takes_1 rfl ?_
    refine r_callV (as := [_]) okX2_lastOf bX2 rfl ha q588 dX9_takes_2 (Nat.le_of_ble_eq_true rfl) rfl (Nat.le_of_ble_eq_true rfl) (Nat.le_of_ble_eq_true rfl) (Nat.le_of_ble_eq_true rfl) (pX2_lastOf ha hs ?_)
    rw [la_ma hw rfl hP, e]
    refine r_istore_n dX9_takes_5 (Nat.le_of_ble_eq_true rfl) ?_
    refine r_aload_n dX9_takes_6 rfl ?_
    refine r_aload_n dX9_takes_7 rfl ?_
    refine r_iload_n dX9_takes_8 rfl ?_
    refine r_callO (as := [_, _]) okX9_wants.1 okX9_wants.2.1 q596 okX9_wants.2.1 okX9_wants.1.1 q595 okX9_wants.1.2.2.1 bX9 ho q593 dX9_takes_9 (Nat.le_of_ble_eq_true rfl) rfl (Nat.le_of_ble_eq_true rfl) (Nat.le_of_ble_eq_true rfl) (Nat.le_of_ble_eq_true rfl) (pX9_wants ?_)
    refine r_if_eq 23 dX9_takes_12 (by decide) (fun c_ => absurd c_ (b2i_n.mpr (by simpa using nI_m1 (show q < 2 ^ 31 by omega)))) (fun _ => ?_)
    refine r_aload_n dX9_takes_15 rfl ?_
    refine r_iload_n dX9_takes_16 rfl ?_
    refine r_callV (as := [_]) okX2_takes bX2 rfl ha q607 dX9_takes_17 (Nat.le_of_ble_eq_true rfl) rfl (Nat.le_of_ble_eq_true rfl) (Nat.le_of_ble_eq_true rfl) (Nat.le_of_ble_eq_true rfl) (pX2_takes hq ha hs hne ?_)
    refine r_goto 24 dX9_takes_20 (by decide) ?_
    exact r_iret dX9_takes_24 rfl (Nat.le_of_ble_eq_true rfl) (Nat.le_of_ble_eq_true rfl) (hQ)
end PP
