set_option maxRecDepth 100000
/-! the component: the greedy -/
section PP
variable {h : AHp} {a s : Nat} {f : Int32} {P : Nat → Int32} {Q : Option Value → AHp → Prop}
theorem pX10_takes {o w : Nat} {nu lk : Int32} (hw : w < 8) (hoa : a ≠ o) (hos : s ≠ o) (ho : aGet h o = some (.inr (10, [.int nu, .int (nI w)]))) (ha : aGet h a = some (.inr (2, [.ref s, .int (-1)]))) (hs : aGet h s = some (.inl (.int, 12, .inl P))) (hne : a ≠ s) (hP : ThI P) (hQ : Q (some (.int (goF 3 (nI w) lk (P, 0, -1)).2.1)) (pnS h a s (goF 3 (nI w) lk (P, 0, -1)).2.2 (goF 3 (nI w) lk (P, 0, -1)).1)) : AMet mX10_takes 6 0 0 [.ref o, .ref a, .int (lk ||| (1 <<< (nI w &&& 31)))] h Q := by
  refine AMet.ofRch rfl rfl (Nat.le_of_ble_eq_true rfl) ?_
  have e0 : goF 3 (nI w) lk (P, 0, -1) = if fwF P (nI w) = -1 then goF 1 (nI w) lk (P, 0, -1) else grF (nI w) 12 (P, 0, -1) := rfl
  rw [e0] at hQ
  by_cases g : fwF P (nI w) = -1
  · rw [if_pos g] at hQ
    refine r_aload_n dX10_takes_0 rfl ?_
    refine r_iconst 1 dX10_takes_1 (by decide) ?_
    refine r_aload_n dX10_takes_2 rfl ?_
    refine r_getS bX10 1 (by decide) q676 q677 dX10_takes_3 ho rfl ?_
    refine r_ishl dX10_takes_6 ?_
    refine r_callV (as := [_]) okX2_firstOf bX2 rfl ha q614 dX10_takes_7 (Nat.le_of_ble_eq_true rfl) rfl (Nat.le_of_ble_eq_true rfl) (Nat.le_of_ble_eq_true rfl) (Nat.le_of_ble_eq_true rfl) (pX2_firstOf ha hs ?_)
    rw [fw_ma hw rfl hP]
    refine r_iconst (-1) dX10_takes_10 (by decide) ?_
    refine r_icmp_ne 21 dX10_takes_11 (by decide) (fun c_ => absurd (g) c_) (fun _ => ?_)
    refine r_aload_n dX10_takes_14 rfl ?_
    refine r_aload_n dX10_takes_15 rfl ?_
    refine r_iload_n dX10_takes_16 rfl ?_
    refine r_callP (as := [_, _]) kcX8_takes kiX8_takes q2048 q619 (by decide) bX10 ho q618 dX10_takes_17 (Nat.le_of_ble_eq_true rfl) rfl (Nat.le_of_ble_eq_true rfl) (Nat.le_of_ble_eq_true rfl) (Nat.le_of_ble_eq_true rfl) (pX8_takes_X10 hw hoa hos ho ha hs hne hP ?_)
    exact r_iret dX10_takes_20 rfl (Nat.le_of_ble_eq_true rfl) (Nat.le_of_ble_eq_true rfl) (hQ)
  · rw [if_neg g] at hQ
    refine r_aload_n dX10_takes_0 rfl ?_
    refine r_iconst 1 dX10_takes_1 (by decide) ?_
    refine r_aload_n dX10_takes_2 rfl ?_
    refine r_getS bX10 1 (by decide) q676 q677 dX10_takes_3 ho rfl ?_
    refine r_ishl dX10_takes_6 ?_
    refine r_callV (as := [_]) okX2_firstOf bX2 rfl ha q614 dX10_takes_7 (Nat.le_of_ble_eq_true rfl) rfl (Nat.le_of_ble_eq_true rfl) (Nat.le_of_ble_eq_true rfl) (Nat.le_of_ble_eq_true rfl) (pX2_firstOf ha hs ?_)
    rw [fw_ma hw rfl hP]
    refine r_iconst (-1) dX10_takes_10 (by decide) ?_
    refine r_icmp_ne 21 dX10_takes_11 (by decide) (fun _ => ?_) (fun c_ => absurd c_ (g))
    refine r_iconst 0 dX10_takes_21 (by decide) ?_
    refine r_istore_n dX10_takes_22 (Nat.le_of_ble_eq_true rfl) ?_
    refine r_aload_n dX10_takes_23 rfl ?_
    refine r_iconst 1 dX10_takes_24 (by decide) ?_
    refine r_aload_n dX10_takes_25 rfl ?_
    refine r_getS bX10 1 (by decide) q676 q677 dX10_takes_26 ho rfl ?_
    refine r_ishl dX10_takes_29 ?_
    refine r_callV (as := [_]) okX2_firstOf bX2 rfl ha q614 dX10_takes_30 (Nat.le_of_ble_eq_true rfl) rfl (Nat.le_of_ble_eq_true rfl) (Nat.le_of_ble_eq_true rfl) (Nat.le_of_ble_eq_true rfl) (pX2_firstOf ha hs ?_)
    rw [fw_ma hw rfl hP]
    refine r_istore dX10_takes_33 (Nat.le_of_ble_eq_true rfl) ?_
    have main : ∀ (k : Nat) (E : EV), TfI E → ThI E.1 → cntI (fun p => E.1 p == nI w) 12 ≤ k → Q (some (.int (grF (nI w) k E).2.1)) (pnS h a s (grF (nI w) k E).2.2 (grF (nI w) k E).1) → Rch (mX10_takes, 6, 0, 0, oQ Q) 0 0 35 [some (.ref o), some (.ref a), some (.int (lk ||| (1 <<< (nI w &&& 31)))), some (.int E.2.1), some (.int (fwF E.1 (nI w)))] [] (pnS h a s E.2.2 E.1) := by
      intro k
      induction k with
      | zero =>
        intro E tE pE hc hq
        have g2 := fw_none (show cntI (fun p => E.1 p == nI w) 12 = 0 by omega)
        refine r_iload dX10_takes_35 rfl ?_
        refine r_iconst (-1) dX10_takes_37 (by decide) ?_
        refine r_icmp_eq 65 dX10_takes_38 (by decide) (fun _ => ?_) (fun c_ => absurd (g2) c_)
        refine r_iload_n dX10_takes_65 rfl ?_
        exact r_iret dX10_takes_66 rfl (Nat.le_of_ble_eq_true rfl) (Nat.le_of_ble_eq_true rfl) (hq)
      | succ k ih =>
        intro E tE pE hc hq
        by_cases g2 : fwF E.1 (nI w) = -1
        · rw [show grF (nI w) (k + 1) E = E from if_pos g2] at hq
          refine r_iload dX10_takes_35 rfl ?_
          refine r_iconst (-1) dX10_takes_37 (by decide) ?_
          refine r_icmp_eq 65 dX10_takes_38 (by decide) (fun _ => ?_) (fun c_ => absurd (g2) c_)
          refine r_iload_n dX10_takes_65 rfl ?_
          exact r_iret dX10_takes_66 rfl (Nat.le_of_ble_eq_true rfl) (Nat.le_of_ble_eq_true rfl) (hq)
        · rw [show grF (nI w) (k + 1) E = grF (nI w) k (tkF (fwF E.1 (nI w)) E) from if_neg g2] at hq
          obtain ⟨q, hq12, e, hd⟩ := fw_drop (nI_m1 (show w < 2 ^ 31 by omega)) g2
          have t1 := tk_TfI (p := nI q) (E := E) (Or.inr ⟨q, hq12, rfl⟩) tE
          have e1 := tk_oc (p := nI q) tE
          rw [oc_q (by omega)] at e1
          have b1 := pnS_a (g := E.2.2) (R := E.1) (P := P) hne ha
          have b2 := pnS_s (g := E.2.2) (R := E.1) hne hs
          rw [e] at hq
          have ih2 := ih (tkF (nI q) E) t1 (by rw [e1]; exact upd_ThI pE) (by rw [e1]; show cntI (fun p => upd E.1 q (-1) p == nI w) 12 ≤ k; omega) hq
          rw [e1] at ih2
          have b3 := pnS_a (g := if E.2.2 = -1 then nI q else E.2.2) (R := upd E.1 q (-1)) (P := P) hne ha
          have b4 := pnS_s (g := if E.2.2 = -1 then nI q else E.2.2) (R := upd E.1 q (-1)) hne hs
          have b5 := (pnS_o (g := if E.2.2 = -1 then nI q else E.2.2) (R := upd E.1 q (-1)) hoa hos).trans ho
          refine r_iload dX10_takes_35 rfl ?_
          refine r_iconst (-1) dX10_takes_37 (by decide) ?_
          refine r_icmp_eq 65 dX10_takes_38 (by decide) (fun c_ => absurd c_ (g2)) (fun _ => ?_)
          refine r_iload_n dX10_takes_41 rfl ?_
          refine r_aload_n dX10_takes_42 rfl ?_
          refine r_iload dX10_takes_43 rfl ?_
          rw [e]
          refine r_callV (as := [_]) okX2_takes bX2 rfl b1 q620 dX10_takes_45 (Nat.le_of_ble_eq_true rfl) rfl (Nat.le_of_ble_eq_true rfl) (Nat.le_of_ble_eq_true rfl) (Nat.le_of_ble_eq_true rfl) (pX2_takes hq12 b1 b2 hne ?_)
          refine eqP (P := fun z => Rch (mX10_takes, 6, 0, 0, oQ Q) 0 0 48 [some (.ref o), some (.ref a), some (.int (lk ||| (1 <<< (nI w &&& 31)))), some (.int E.2.1), some (.int (nI q))] [.int (1 <<< (nI q &&& 31)), .int E.2.1] z) (pnS_pnS (h := h) (f := E.2.2) (P := E.1) (g := if E.2.2 = -1 then nI q else E.2.2) (R := upd E.1 q (-1)) hne).symm ?_
          refine r_ior dX10_takes_48 ?_
          refine r_istore_n dX10_takes_49 (Nat.le_of_ble_eq_true rfl) ?_
          refine r_aload_n dX10_takes_50 rfl ?_
          refine r_iconst 1 dX10_takes_51 (by decide) ?_
          refine r_aload_n dX10_takes_52 rfl ?_
          refine r_getS bX10 1 (by decide) q676 q677 dX10_takes_53 b5 rfl ?_
          refine r_ishl dX10_takes_56 ?_
          refine r_callV (as := [_]) okX2_firstOf bX2 rfl b3 q614 dX10_takes_57 (Nat.le_of_ble_eq_true rfl) rfl (Nat.le_of_ble_eq_true rfl) (Nat.le_of_ble_eq_true rfl) (Nat.le_of_ble_eq_true rfl) (pX2_firstOf b3 b4 ?_)
          rw [fw_ma hw rfl (upd_ThI pE)]
          refine r_istore dX10_takes_60 (Nat.le_of_ble_eq_true rfl) ?_
          refine r_goto 35 dX10_takes_62 (by decide) ?_
          exact ih2
    refine eqP (P := fun z => Rch (mX10_takes, 6, 0, 0, oQ Q) 0 0 35 [some (.ref o), some (.ref a), some (.int (lk ||| (1 <<< (nI w &&& 31)))), some (.int 0), some (.int (fwF P (nI w)))] [] z) (pnS_id ha hs) ?_
    exact main 12 (P, 0, -1) ⟨fun _ => rfl, fun _ => rfl⟩ hP (cntI_le _ _) hQ
end PP
