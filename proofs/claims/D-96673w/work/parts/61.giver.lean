set_option maxRecDepth 100000
/-! the component: the giver -/
theorem kcJ11_append : MkC mJ11_append 1 := ⟨q776, q108, ⟨by decide +kernel, by decide +kernel, by decide +kernel⟩, by decide⟩
theorem kiJ11_append : Cond.instanceMethod mJ11_append.1 ∈ lw_all := q775
theorem kcJ11_appendNull : MkC mJ11_appendNull 0 := ⟨q780, q108, ⟨by decide +kernel, by decide +kernel, by decide +kernel⟩, by decide⟩
theorem kiJ11_appendNull : Cond.instanceMethod mJ11_appendNull.1 ∈ lw_all := q779
theorem kcJ11_append_2 : MkC mJ11_append_2 1 := ⟨q894, q108, ⟨by decide +kernel, by decide +kernel, by decide +kernel⟩, by decide⟩
theorem kiJ11_append_2 : Cond.instanceMethod mJ11_append_2.1 ∈ lw_all := q893
theorem kcJ11_append_3 : MkC mJ11_append_3 1 := ⟨q1053, q108, ⟨by decide +kernel, by decide +kernel, by decide +kernel⟩, by decide⟩
theorem kiJ11_append_3 : Cond.instanceMethod mJ11_append_3.1 ∈ lw_all := q1052
theorem kcJ11_ensureCapacityInternal : MkC mJ11_ensureCapacityInternal 1 := ⟨q784, q108, ⟨by decide +kernel, by decide +kernel, by decide +kernel⟩, by decide⟩
theorem kiJ11_ensureCapacityInternal : Cond.instanceMethod mJ11_ensureCapacityInternal.1 ∈ lw_all := q783
theorem kcJ11_getValue : MkC mJ11_getValue 0 := ⟨q929, q108, ⟨by decide +kernel, by decide +kernel, by decide +kernel⟩, by decide⟩
theorem kiJ11_getValue : Cond.instanceMethod mJ11_getValue.1 ∈ lw_all := q926
theorem kcJ11_inflate : MkC mJ11_inflate 0 := ⟨q866, q108, ⟨by decide +kernel, by decide +kernel, by decide +kernel⟩, by decide⟩
theorem kiJ11_inflate : Cond.instanceMethod mJ11_inflate.1 ∈ lw_all := q865
theorem kcJ11_inflateIfNeededFor : MkC mJ11_inflateIfNeededFor 1 := ⟨q861, q108, ⟨by decide +kernel, by decide +kernel, by decide +kernel⟩, by decide⟩
theorem kiJ11_inflateIfNeededFor : Cond.instanceMethod mJ11_inflateIfNeededFor.1 ∈ lw_all := q860
theorem kcJ11_isLatin1 : MkC mJ11_isLatin1 0 := ⟨q818, q108, ⟨by decide +kernel, by decide +kernel, by decide +kernel⟩, by decide⟩
theorem kiJ11_isLatin1 : Cond.instanceMethod mJ11_isLatin1.1 ∈ lw_all := q815
theorem kcJ11_length : MkC mJ11_length 0 := ⟨q937, q108, ⟨by decide +kernel, by decide +kernel, by decide +kernel⟩, by decide⟩
theorem kiJ11_length : Cond.instanceMethod mJ11_length.1 ∈ lw_all := q931
theorem kcJ11_newCapacity : MkC mJ11_newCapacity 1 := ⟨q788, q108, ⟨by decide +kernel, by decide +kernel, by decide +kernel⟩, by decide⟩
theorem kiJ11_newCapacity : Cond.instanceMethod mJ11_newCapacity.1 ∈ lw_all := q787
theorem kcJ11_putStringAt : MkC mJ11_putStringAt 2 := ⟨q857, q108, ⟨by decide +kernel, by decide +kernel, by decide +kernel⟩, by decide⟩
theorem kiJ11_putStringAt : Cond.instanceMethod mJ11_putStringAt.1 ∈ lw_all := q856
theorem kcJ12_length : MkC mJ12_length 0 := ⟨q935, q109, ⟨by decide +kernel, by decide +kernel, by decide +kernel⟩, by decide⟩
theorem kiJ12_length : Cond.instanceMethod mJ12_length.1 ∈ lw_all := q934
theorem kcX10_kind : MkC mX10_kind 0 := ⟨q1207, q105, ⟨by decide +kernel, by decide +kernel, by decide +kernel⟩, by decide⟩
theorem kiX10_kind : Cond.instanceMethod mX10_kind.1 ∈ lw_all := q1206
theorem kcX10_takes : MkC mX10_takes 2 := ⟨q613, q105, ⟨by decide +kernel, by decide +kernel, by decide +kernel⟩, by decide⟩
theorem kiX10_takes : Cond.instanceMethod mX10_takes.1 ∈ lw_all := q612
theorem kcX11_kind : MkC mX11_kind 0 := ⟨q1204, q106, ⟨by decide +kernel, by decide +kernel, by decide +kernel⟩, by decide⟩
theorem kiX11_kind : Cond.instanceMethod mX11_kind.1 ∈ lw_all := q1203
theorem kcX11_wants : MkC mX11_wants 2 := ⟨q599, q106, ⟨by decide +kernel, by decide +kernel, by decide +kernel⟩, by decide⟩
theorem kiX11_wants : Cond.instanceMethod mX11_wants.1 ∈ lw_all := q598
theorem kcX12_kind : MkC mX12_kind 0 := ⟨q1213, q107, ⟨by decide +kernel, by decide +kernel, by decide +kernel⟩, by decide⟩
theorem kiX12_kind : Cond.instanceMethod mX12_kind.1 ∈ lw_all := q1212
theorem kcX12_takes : MkC mX12_takes 2 := ⟨q624, q107, ⟨by decide +kernel, by decide +kernel, by decide +kernel⟩, by decide⟩
theorem kiX12_takes : Cond.instanceMethod mX12_takes.1 ∈ lw_all := q623
theorem kcX8_kind : MkC mX8_kind 0 := ⟨q1201, q103, ⟨by decide +kernel, by decide +kernel, by decide +kernel⟩, by decide⟩
theorem kiX8_kind : Cond.instanceMethod mX8_kind.1 ∈ lw_all := q1200
theorem kcX8_takes : MkC mX8_takes 2 := ⟨q582, q103, ⟨by decide +kernel, by decide +kernel, by decide +kernel⟩, by decide⟩
theorem kiX8_takes : Cond.instanceMethod mX8_takes.1 ∈ lw_all := q581
theorem kcX9_kind : MkC mX9_kind 0 := ⟨q1210, q104, ⟨by decide +kernel, by decide +kernel, by decide +kernel⟩, by decide⟩
theorem kiX9_kind : Cond.instanceMethod mX9_kind.1 ∈ lw_all := q1209
theorem kcX9_takes : MkC mX9_takes 2 := ⟨q587, q104, ⟨by decide +kernel, by decide +kernel, by decide +kernel⟩, by decide⟩
theorem kiX9_takes : Cond.instanceMethod mX9_takes.1 ∈ lw_all := q586
section PP
variable {h : AHp} {a s : Nat} {f : Int32} {P : Nat → Int32} {Q : Option Value → AHp → Prop}
theorem pX11_wants0 {o : Nat} {fs : List Value} (ho : aGet h o = some (.inr (11, fs))) (hQ : Q (some (.int 0)) h) : AMet mX11_wants 3 0 0 [.ref o, .ref a, .int (-1)] h Q := by
  refine AMet.ofRch rfl rfl (Nat.le_of_ble_eq_true rfl) ?_
  refine r_aload_n dX11_wants_0 rfl ?_
  refine r_aload_n dX11_wants_1 rfl ?_
  refine r_iload_n dX11_wants_2 rfl ?_
  refine r_callP (as := [_, _]) okX9_wants.1 okX9_wants.2.1 q596 q601 (by decide) bX11 ho q600 dX11_wants_3 (Nat.le_of_ble_eq_true rfl) rfl (Nat.le_of_ble_eq_true rfl) (Nat.le_of_ble_eq_true rfl) (Nat.le_of_ble_eq_true rfl) (pX9_wants ?_)
  refine r_if_eq 27 dX11_wants_6 (by decide) (fun _ => ?_) (fun c_ => absurd (b2i_0.mpr (by decide)) c_)
  refine r_iconst 0 dX11_wants_27 (by decide) ?_
  exact r_zret (ty := .boolean) dX11_wants_28 rfl (rfl) (Nat.le_of_ble_eq_true rfl) (Nat.le_of_ble_eq_true rfl) (hQ)
theorem pX11_wants1 {o q : Nat} {fs : List Value} (hq : q < 12) (ho : aGet h o = some (.inr (11, fs))) (ha : aGet h a = some (.inr (2, [.ref s, .int f]))) (hs : aGet h s = some (.inl (.int, 12, .inl P))) (hQ : Q (some (.int (b2i (decide (1 < cnF P (P q)))))) h) : AMet mX11_wants 3 0 0 [.ref o, .ref a, .int (nI q)] h Q := by
  refine AMet.ofRch rfl rfl (Nat.le_of_ble_eq_true rfl) ?_
  refine r_aload_n dX11_wants_0 rfl ?_
  refine r_aload_n dX11_wants_1 rfl ?_
  refine r_iload_n dX11_wants_2 rfl ?_
  refine r_callP (as := [_, _]) okX9_wants.1 okX9_wants.2.1 q596 q601 (by decide) bX11 ho q600 dX11_wants_3 (Nat.le_of_ble_eq_true rfl) rfl (Nat.le_of_ble_eq_true rfl) (Nat.le_of_ble_eq_true rfl) (Nat.le_of_ble_eq_true rfl) (pX9_wants ?_)
  refine r_if_eq 27 dX11_wants_6 (by decide) (fun c_ => absurd c_ (b2i_n.mpr (by simpa using nI_m1 (show q < 2 ^ 31 by omega)))) (fun _ => ?_)
  refine r_aload_n dX11_wants_9 rfl ?_
  refine r_aload_n dX11_wants_10 rfl ?_
  refine r_get bX2 0 (by decide) q143 dX11_wants_11 ha rfl ?_
  refine r_iload_n dX11_wants_14 rfl ?_
  refine r_ialdN dX11_wants_15 hs (by omega) (Nat.le_of_ble_eq_true rfl) ?_
  refine r_callV (as := [_]) okX2_many bX2 rfl ha q602 dX11_wants_16 (Nat.le_of_ble_eq_true rfl) rfl (Nat.le_of_ble_eq_true rfl) (Nat.le_of_ble_eq_true rfl) (Nat.le_of_ble_eq_true rfl) (pX2_many ha hs ?_)
  refine r_iconst 1 dX11_wants_19 (by decide) ?_
  refine r_icmp_le 27 dX11_wants_20 (by decide) (fun c_20 => ?_) (fun c_20 => ?_)
  · refine r_iconst 0 dX11_wants_27 (by decide) ?_
    exact r_zret (ty := .boolean) dX11_wants_28 rfl (rfl) (Nat.le_of_ble_eq_true rfl) (Nat.le_of_ble_eq_true rfl) (by first | exact qi (by rw [show decide (1 < cnF P (P q)) = false from decide_eq_false (Int32.not_lt.mpr c_20)]; rfl) hQ | exact qi (by rw [show decide (1 < cnF P (P q)) = true from decide_eq_true (Int32.not_le.mp c_20)]; rfl) hQ)
  · refine r_iconst 1 dX11_wants_23 (by decide) ?_
    refine r_goto 28 dX11_wants_24 (by decide) ?_
    exact r_zret (ty := .boolean) dX11_wants_28 rfl (rfl) (Nat.le_of_ble_eq_true rfl) (Nat.le_of_ble_eq_true rfl) (by first | exact qi (by rw [show decide (1 < cnF P (P q)) = false from decide_eq_false (Int32.not_lt.mpr c_20)]; rfl) hQ | exact qi (by rw [show decide (1 < cnF P (P q)) = true from decide_eq_true (Int32.not_le.mp c_20)]; rfl) hQ)
theorem pX9_takes_X11 {o w : Nat} {nu lk : Int32} (hw : w < 8) (hoa : a ≠ o) (hos : s ≠ o) (ho : aGet h o = some (.inr (11, [.int nu, .int (nI w)]))) (ha : aGet h a = some (.inr (2, [.ref s, .int (-1)]))) (hs : aGet h s = some (.inl (.int, 12, .inl P))) (hne : a ≠ s) (hP : ThI P) (hQ : Q (some (.int (goF 4 (nI w) lk (P, 0, -1)).2.1)) (pnS h a s (goF 4 (nI w) lk (P, 0, -1)).2.2 (goF 4 (nI w) lk (P, 0, -1)).1)) : AMet mX9_takes 4 0 0 [.ref o, .ref a, .int (lk ||| (1 <<< (nI w &&& 31)))] h Q := by
  refine AMet.ofRch rfl rfl (Nat.le_of_ble_eq_true rfl) ?_
  have t0 : TfI ((P, 0, -1) : EV) := ⟨fun _ => rfl, fun _ => rfl⟩
  have e0 : goF 4 (nI w) lk (P, 0, -1) = if laF (nI w) lk P = -1 then (P, 0, -1) else if 1 < cnF P (P (laF (nI w) lk P).toNatClampNeg) then tkF (laF (nI w) lk P) (P, 0, -1) else (P, 0, -1) := rfl
  rcases la_PlN (nI w) lk P with e | ⟨q, hq, e⟩
  · rw [e0, if_pos e] at hQ
    have hQ : Q (some (.int 0)) (pnS h a s (-1) P) := hQ
    rw [pnS_id ha hs] at hQ
    refine r_aload_n dX9_takes_0 rfl ?_
    refine r_iload_n dX9_takes_1 rfl ?_
    refine r_callV (as := [_]) okX2_lastOf bX2 rfl ha q588 dX9_takes_2 (Nat.le_of_ble_eq_true rfl) rfl (Nat.le_of_ble_eq_true rfl) (Nat.le_of_ble_eq_true rfl) (Nat.le_of_ble_eq_true rfl) (pX2_lastOf ha hs ?_)
    rw [la_ma hw rfl hP, e]
    refine r_istore_n dX9_takes_5 (Nat.le_of_ble_eq_true rfl) ?_
    refine r_aload_n dX9_takes_6 rfl ?_
    refine r_aload_n dX9_takes_7 rfl ?_
    refine r_iload_n dX9_takes_8 rfl ?_
    refine r_callO (as := [_, _]) kcX11_wants kiX11_wants q596 okX9_wants.2.1 okX9_wants.1.1 q597 okX9_wants.1.2.2.1 bX11 ho q593 dX9_takes_9 (Nat.le_of_ble_eq_true rfl) rfl (Nat.le_of_ble_eq_true rfl) (Nat.le_of_ble_eq_true rfl) (Nat.le_of_ble_eq_true rfl) (pX11_wants0 ho ?_)
    refine r_if_eq 23 dX9_takes_12 (by decide) (fun _ => ?_) (fun c_ => absurd (rfl) c_)
    refine r_iconst 0 dX9_takes_23 (by decide) ?_
    exact r_iret dX9_takes_24 rfl (Nat.le_of_ble_eq_true rfl) (Nat.le_of_ble_eq_true rfl) (hQ)
  · rw [e0, e, if_neg (nI_m1 (by omega)), nI_clamp (by omega)] at hQ
    by_cases g : 1 < cnF P (P q)
    · rw [if_pos g, tk_oc t0, oc_q (by omega)] at hQ
      simp only [Int32.zero_or] at hQ
      refine r_aload_n dX9_takes_0 rfl ?_
      refine r_iload_n dX9_takes_1 rfl ?_
      refine r_callV (as := [_]) okX2_lastOf bX2 rfl ha q588 dX9_takes_2 (Nat.le_of_ble_eq_true rfl) rfl (Nat.le_of_ble_eq_true rfl) (Nat.le_of_ble_eq_true rfl) (Nat.le_of_ble_eq_true rfl) (pX2_lastOf ha hs ?_)
      rw [la_ma hw rfl hP, e]
      refine r_istore_n dX9_takes_5 (Nat.le_of_ble_eq_true rfl) ?_
      refine r_aload_n dX9_takes_6 rfl ?_
      refine r_aload_n dX9_takes_7 rfl ?_
      refine r_iload_n dX9_takes_8 rfl ?_
      refine r_callO (as := [_, _]) kcX11_wants kiX11_wants q596 okX9_wants.2.1 okX9_wants.1.1 q597 okX9_wants.1.2.2.1 bX11 ho q593 dX9_takes_9 (Nat.le_of_ble_eq_true rfl) rfl (Nat.le_of_ble_eq_true rfl) (Nat.le_of_ble_eq_true rfl) (Nat.le_of_ble_eq_true rfl) (pX11_wants1 hq ho ha hs ?_)
      refine r_if_eq 23 dX9_takes_12 (by decide) (fun c_ => absurd c_ (b2i_n.mpr (decide_eq_true g))) (fun _ => ?_)
      refine r_aload_n dX9_takes_15 rfl ?_
      refine r_iload_n dX9_takes_16 rfl ?_
      refine r_callV (as := [_]) okX2_takes bX2 rfl ha q607 dX9_takes_17 (Nat.le_of_ble_eq_true rfl) rfl (Nat.le_of_ble_eq_true rfl) (Nat.le_of_ble_eq_true rfl) (Nat.le_of_ble_eq_true rfl) (pX2_takes hq ha hs hne ?_)
      refine r_goto 24 dX9_takes_20 (by decide) ?_
      exact r_iret dX9_takes_24 rfl (Nat.le_of_ble_eq_true rfl) (Nat.le_of_ble_eq_true rfl) (hQ)
    · rw [if_neg g] at hQ
      have hQ : Q (some (.int 0)) (pnS h a s (-1) P) := hQ
      rw [pnS_id ha hs] at hQ
      refine r_aload_n dX9_takes_0 rfl ?_
      refine r_iload_n dX9_takes_1 rfl ?_
      refine r_callV (as := [_]) okX2_lastOf bX2 rfl ha q588 dX9_takes_2 (Nat.le_of_ble_eq_true rfl) rfl (Nat.le_of_ble_eq_true rfl) (Nat.le_of_ble_eq_true rfl) (Nat.le_of_ble_eq_true rfl) (pX2_lastOf ha hs ?_)
      rw [la_ma hw rfl hP, e]
      refine r_istore_n dX9_takes_5 (Nat.le_of_ble_eq_true rfl) ?_
      refine r_aload_n dX9_takes_6 rfl ?_
      refine r_aload_n dX9_takes_7 rfl ?_
      refine r_iload_n dX9_takes_8 rfl ?_
      refine r_callO (as := [_, _]) kcX11_wants kiX11_wants q596 okX9_wants.2.1 okX9_wants.1.1 q597 okX9_wants.1.2.2.1 bX11 ho q593 dX9_takes_9 (Nat.le_of_ble_eq_true rfl) rfl (Nat.le_of_ble_eq_true rfl) (Nat.le_of_ble_eq_true rfl) (Nat.le_of_ble_eq_true rfl) (pX11_wants1 hq ho ha hs ?_)
      refine r_if_eq 23 dX9_takes_12 (by decide) (fun _ => ?_) (fun c_ => absurd (b2i_0.mpr (decide_eq_false g)) c_)
      refine r_iconst 0 dX9_takes_23 (by decide) ?_
      exact r_iret dX9_takes_24 rfl (Nat.le_of_ble_eq_true rfl) (Nat.le_of_ble_eq_true rfl) (hQ)
end PP
