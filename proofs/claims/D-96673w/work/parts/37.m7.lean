set_option maxRecDepth 100000
/-! the reference: what is asked of evenings -/
section MM
variable {th kd ow ag lk co sh hs tp hd rl : Nat → Int32} {ro : Nat → Int64} {rf ol ah tr od tk fo wi ou ge mo : Nat → Int32} {my ev se td fr to tn va im lo : Int32} {r : List AC × List AC × List AC} {Q : Option Value → AHp → Prop}
variable {n : Nat} {kN : Nat → Nat}
theorem pX5_isSetN {p : Int32} (hn : n ≤ 8) (hQ : Q (some (.int (b2i (inB p 0 (allS n))))) ((mC th kd ow ag lk co sh hs tp hd rl ro rf ol ah tr od tk fo wi ou ge mo (nI n) ev se td fr to tn va im lo), r)) : AMet mX5_isSet 2 0 0 [.ref 0, .int p] ((mC th kd ow ag lk co sh hs tp hd rl ro rf ol ah tr od tk fo wi ou ge mo (nI n) ev se td fr to tn va im lo), r) Q := by
  refine pX5_isSet ?_
  rw [shl1m hn]
  exact hQ
theorem pX5_left {s : Int32} (hn : n ≤ 8) (hk : ∀ j, j < n → kd j = nI (kN j) ∧ kN j < 6) (ho : ∀ j, j < n → ow j ≠ -1) (hbad : inB s 0 (allS n) = false → Q (some (.int (-2))) ((mC th kd ow ag lk co sh hs tp hd rl ro (upd rf 2 (rf 2 + 1)) ol ah tr od tk fo wi ou ge mo (nI n) ev se td fr to tn va im lo), r)) (hok : inB s 0 (allS n) = true → ∀ (tr tk fo od : Nat → Int32) (lo : Int32), Q (some (.int (leF kN ow lk ag n th s))) ((mC th kd ow ag lk co sh hs tp hd rl ro rf ol ah tr od tk fo wi ou ge mo (nI n) ev se td fr to tn va im lo), r)) : AMet mX5_left 6 0 0 [.ref 0, .int s] ((mC th kd ow ag lk co sh hs tp hd rl ro rf ol ah tr od tk fo wi ou ge mo (nI n) ev se td fr to tn va im lo), r) Q := by
  refine AMet.ofRch rfl rfl (Nat.le_of_ble_eq_true rfl) ?_
  refine r_aload_n dX5_left_0 rfl ?_
  refine r_iload_n dX5_left_1 rfl ?_
  refine r_callV (as := [_]) okX5_isSet bX5 rfl rfl q1824 dX5_left_2 (Nat.le_of_ble_eq_true rfl) rfl (Nat.le_of_ble_eq_true rfl) (Nat.le_of_ble_eq_true rfl) (Nat.le_of_ble_eq_true rfl) (pX5_isSetN hn ?_)
  refine r_if_ne 15 dX5_left_5 (by decide) (fun c_5 => ?_) (fun c_5 => ?_)
  · refine r_aload_n dX5_left_15 rfl ?_
    refine r_iload_n dX5_left_16 rfl ?_
    refine r_callV (as := [_]) okX5_runs bX5 rfl rfl q1679 dX5_left_17 (Nat.le_of_ble_eq_true rfl) rfl (Nat.le_of_ble_eq_true rfl) (Nat.le_of_ble_eq_true rfl) (Nat.le_of_ble_eq_true rfl) (pX5_runs hn hk ho (fun od2 hod => ?_))
    refine r_aload_n dX5_left_20 rfl ?_
    refine r_callV (as := []) okX5_leftThen bX5 rfl rfl q1828 dX5_left_21 (Nat.le_of_ble_eq_true rfl) rfl (Nat.le_of_ble_eq_true rfl) (Nat.le_of_ble_eq_true rfl) (Nat.le_of_ble_eq_true rfl) (pX5_leftThen ?_)
    exact r_iret dX5_left_24 rfl (Nat.le_of_ble_eq_true rfl) (Nat.le_of_ble_eq_true rfl) (hok (b2i_n.mp c_5) _ _ _ _ _)
  · refine r_aload_n dX5_left_8 rfl ?_
    refine r_bipush (-2) dX5_left_9 (by decide) ?_
    refine r_callV (as := [_]) okX5_no bX5 rfl rfl q1633 dX5_left_11 (Nat.le_of_ble_eq_true rfl) rfl (Nat.le_of_ble_eq_true rfl) (Nat.le_of_ble_eq_true rfl) (Nat.le_of_ble_eq_true rfl) (pX5_no 2 (by decide) (by decide) ?_)
    exact r_iret dX5_left_14 rfl (Nat.le_of_ble_eq_true rfl) (Nat.le_of_ble_eq_true rfl) (hbad (b2i_0.mp c_5))
theorem pX5_taken {s l : Int32} (hn : n ≤ 8) (hk : ∀ j, j < n → kd j = nI (kN j) ∧ kN j < 6) (ho : ∀ j, j < n → ow j ≠ -1) (hbad : (inB s 0 (allS n) && inB l 0 (nI n - 1)) = false → Q (some (.int (-2))) ((mC th kd ow ag lk co sh hs tp hd rl ro (upd rf 2 (rf 2 + 1)) ol ah tr od tk fo wi ou ge mo (nI n) ev se td fr to tn va im lo), r)) (hok : inB s 0 (allS n) = true → ∀ j, j < n → l = nI j → ∀ (tr tk fo od : Nat → Int32) (lo : Int32), Q (some (.int ((evR kN ow lk ag n th s).2.1 j))) ((mC th kd ow ag lk co sh hs tp hd rl ro rf ol ah tr od tk fo wi ou ge mo (nI n) ev se td fr to tn va im lo), r)) : AMet mX5_taken 6 0 0 [.ref 0, .int s, .int l] ((mC th kd ow ag lk co sh hs tp hd rl ro rf ol ah tr od tk fo wi ou ge mo (nI n) ev se td fr to tn va im lo), r) Q := by
  refine AMet.ofRch rfl rfl (Nat.le_of_ble_eq_true rfl) ?_
  refine r_aload_n dX5_taken_0 rfl ?_
  refine r_iload_n dX5_taken_1 rfl ?_
  refine r_callV (as := [_]) okX5_isSet bX5 rfl rfl q1824 dX5_taken_2 (Nat.le_of_ble_eq_true rfl) rfl (Nat.le_of_ble_eq_true rfl) (Nat.le_of_ble_eq_true rfl) (Nat.le_of_ble_eq_true rfl) (pX5_isSetN hn ?_)
  refine r_if_eq 16 dX5_taken_5 (by decide) (fun c_5 => ?_) (fun c_5 => ?_)
  · refine r_aload_n dX5_taken_16 rfl ?_
    refine r_bipush (-2) dX5_taken_17 (by decide) ?_
    refine r_callV (as := [_]) okX5_no bX5 rfl rfl q1633 dX5_taken_19 (Nat.le_of_ble_eq_true rfl) rfl (Nat.le_of_ble_eq_true rfl) (Nat.le_of_ble_eq_true rfl) (Nat.le_of_ble_eq_true rfl) (pX5_no 2 (by decide) (by decide) ?_)
    exact r_iret dX5_taken_22 rfl (Nat.le_of_ble_eq_true rfl) (Nat.le_of_ble_eq_true rfl) (hbad (by simp_all [b2i_0]))
  · refine r_aload_n dX5_taken_8 rfl ?_
    refine r_iload_n dX5_taken_9 rfl ?_
    refine r_callV (as := [_]) okX5_isLooker bX5 rfl rfl q1668 dX5_taken_10 (Nat.le_of_ble_eq_true rfl) rfl (Nat.le_of_ble_eq_true rfl) (Nat.le_of_ble_eq_true rfl) (Nat.le_of_ble_eq_true rfl) (pX5_isLooker ?_)
    refine r_if_ne 23 dX5_taken_13 (by decide) (fun c_13 => ?_) (fun c_13 => ?_)
    · obtain ⟨j, hj, rfl⟩ := inB_m (b2i_n.mp c_13) (by omega)
      refine r_aload_n dX5_taken_23 rfl ?_
      refine r_iload_n dX5_taken_24 rfl ?_
      refine r_callV (as := [_]) okX5_runs bX5 rfl rfl q1679 dX5_taken_25 (Nat.le_of_ble_eq_true rfl) rfl (Nat.le_of_ble_eq_true rfl) (Nat.le_of_ble_eq_true rfl) (Nat.le_of_ble_eq_true rfl) (pX5_runs hn hk ho (fun od2 hod => ?_))
      refine r_aload_n dX5_taken_28 rfl ?_
      refine r_get bX5 27 (by decide) q1550 dX5_taken_29 rfl rfl ?_
      refine r_iload_n dX5_taken_32 rfl ?_
      refine r_ialdN dX5_taken_33 rfl (by omega) (Nat.le_of_ble_eq_true rfl) ?_
      exact r_iret dX5_taken_34 rfl (Nat.le_of_ble_eq_true rfl) (Nat.le_of_ble_eq_true rfl) (hok (b2i_n.mp c_5) j hj rfl _ _ _ _ _)
    · refine r_aload_n dX5_taken_16 rfl ?_
      refine r_bipush (-2) dX5_taken_17 (by decide) ?_
      refine r_callV (as := [_]) okX5_no bX5 rfl rfl q1633 dX5_taken_19 (Nat.le_of_ble_eq_true rfl) rfl (Nat.le_of_ble_eq_true rfl) (Nat.le_of_ble_eq_true rfl) (Nat.le_of_ble_eq_true rfl) (pX5_no 2 (by decide) (by decide) ?_)
      exact r_iret dX5_taken_22 rfl (Nat.le_of_ble_eq_true rfl) (Nat.le_of_ble_eq_true rfl) (hbad (by simp_all [b2i_0]))
theorem pX5_glad {s w : Int32} (hn : n ≤ 8) (hk : ∀ j, j < n → kd j = nI (kN j) ∧ kN j < 6) (ho : ∀ j, j < n → ow j ≠ -1) (hbad : (inB s 0 (allS n) && inB w 0 1) = false → Q (some (.int (-2))) ((mC th kd ow ag lk co sh hs tp hd rl ro (upd rf 2 (rf 2 + 1)) ol ah tr od tk fo wi ou ge mo (nI n) ev se td fr to tn va im lo), r)) (h0 : inB s 0 (allS n) = true → w = 0 → ∀ (tr tk fo od : Nat → Int32) (lo : Int32), Q (some (.int (gcF kN ow lk ag n th s))) ((mC th kd ow ag lk co sh hs tp hd rl ro rf ol ah tr od tk fo wi ou ge mo (nI n) ev se td fr to tn va im lo), r)) (h1 : inB s 0 (allS n) = true → w = 1 → ∀ (tr tk fo od : Nat → Int32) (lo : Int32), Q (some (.int (nI (cntI (fun l => hasB s (nI l) && (evR kN ow lk ag n th s).2.1 l == 0) n)))) ((mC th kd ow ag lk co sh hs tp hd rl ro rf ol ah tr od tk fo wi ou ge mo (nI n) ev se td fr to tn va im lo), r)) : AMet mX5_glad 7 0 0 [.ref 0, .int s, .int w] ((mC th kd ow ag lk co sh hs tp hd rl ro rf ol ah tr od tk fo wi ou ge mo (nI n) ev se td fr to tn va im lo), r) Q := by
  refine AMet.ofRch rfl rfl (Nat.le_of_ble_eq_true rfl) ?_
  have hgo : inB s 0 (allS n) = true → w = 1 → ∀ (g : Int32) (od : Nat → Int32) (lo : Int32), Rch (mX5_glad, 7, 0, 0, oQ Q) 0 0 36 [some (.ref 0), some (.int s), some (.int w), some (.int g), none, none] [] ((mC th kd ow ag lk co sh hs tp hd rl ro rf ol ah ((evR kN ow lk ag n th s).1) od ((evR kN ow lk ag n th s).2.1) ((evR kN ow lk ag n th s).2.2) wi ou ge mo (nI n) ev se td fr to tn va im lo), r) := by
    intro g1 g2 g od lo
    refine r_iconst 0 dX5_glad_36 (by decide) ?_
    refine r_istore dX5_glad_37 (Nat.le_of_ble_eq_true rfl) ?_
    refine r_iconst 0 dX5_glad_39 (by decide) ?_
    refine r_istore dX5_glad_40 (Nat.le_of_ble_eq_true rfl) ?_
    refine loopUp (N := n) (P := fun k => Rch (mX5_glad, 7, 0, 0, oQ Q) 0 0 42 [some (.ref 0), some (.int s), some (.int w), some (.int g), some (.int (nI (cntI (fun l => hasB s (nI l) && (evR kN ow lk ag n th s).2.1 l == 0) k))), some (.int (nI k))] [] ((mC th kd ow ag lk co sh hs tp hd rl ro rf ol ah ((evR kN ow lk ag n th s).1) od ((evR kN ow lk ag n th s).2.1) ((evR kN ow lk ag n th s).2.2) wi ou ge mo (nI n) ev se td fr to tn va im lo), r)) ?_ ?_
    · refine r_iload dX5_glad_42 rfl ?_
      refine r_aload_n dX5_glad_44 rfl ?_
      refine r_get bX5 1 (by decide) q1524 dX5_glad_45 rfl rfl ?_
      refine r_icmp_ge 79 dX5_glad_48 (by decide) (fun _ => ?_) (fun c_ => absurd (Int32.le_refl _) c_)
      refine r_iload dX5_glad_79 rfl ?_
      exact r_iret dX5_glad_81 rfl (Nat.le_of_ble_eq_true rfl) (Nat.le_of_ble_eq_true rfl) (h1 g1 g2 _ _ _ _ _)
    · intro k hk2 ih
      refine r_iload dX5_glad_42 rfl ?_
      refine r_aload_n dX5_glad_44 rfl ?_
      refine r_get bX5 1 (by decide) q1524 dX5_glad_45 rfl rfl ?_
      refine r_icmp_ge 79 dX5_glad_48 (by decide) (fun c_ => absurd c_ (geF hk2 (by omega))) (fun _ => ?_)
      refine r_iload_n dX5_glad_51 rfl ?_
      refine r_iload dX5_glad_52 rfl ?_
      refine r_callS (as := [_, _]) okX5_in q1691 dX5_glad_54 (Nat.le_of_ble_eq_true rfl) rfl (Nat.le_of_ble_eq_true rfl) (Nat.le_of_ble_eq_true rfl) (Nat.le_of_ble_eq_true rfl) (pX5_in ?_)
      refine r_if_eq 73 dX5_glad_57 (by decide) (fun c_57 => ?_) (fun c_57 => ?_)
      · refine r_iincV dX5_glad_73 rfl (Nat.le_of_ble_eq_true rfl) (incN _) ?_
        refine r_goto 42 dX5_glad_76 (by decide) ?_
        first | (have q1 := b2i_0.mp c_57; simp only [cntI, q1, Bool.false_and, Bool.false_eq_true, if_false, Nat.add_zero] at ih; exact ih) | (have q1 := b2i_n.mp c_57; simp only [cntI, q1, Bool.true_and, beq_iff_eq, c_67, if_true, if_false, Nat.add_zero] at ih; exact ih)
      · refine r_aload_n dX5_glad_60 rfl ?_
        refine r_get bX5 27 (by decide) q1550 dX5_glad_61 rfl rfl ?_
        refine r_iload dX5_glad_64 rfl ?_
        refine r_ialdN dX5_glad_66 rfl (by omega) (Nat.le_of_ble_eq_true rfl) ?_
        refine r_if_ne 73 dX5_glad_67 (by decide) (fun c_67 => ?_) (fun c_67 => ?_)
        · refine r_iincV dX5_glad_73 rfl (Nat.le_of_ble_eq_true rfl) (incN _) ?_
          refine r_goto 42 dX5_glad_76 (by decide) ?_
          first | (have q1 := b2i_0.mp c_57; simp only [cntI, q1, Bool.false_and, Bool.false_eq_true, if_false, Nat.add_zero] at ih; exact ih) | (have q1 := b2i_n.mp c_57; simp only [cntI, q1, Bool.true_and, beq_iff_eq, c_67, if_true, if_false, Nat.add_zero] at ih; exact ih)
        · refine r_iincV dX5_glad_70 rfl (Nat.le_of_ble_eq_true rfl) (incN _) ?_
          refine r_iincV dX5_glad_73 rfl (Nat.le_of_ble_eq_true rfl) (incN _) ?_
          refine r_goto 42 dX5_glad_76 (by decide) ?_
          first | (have q1 := b2i_0.mp c_57; simp only [cntI, q1, Bool.false_and, Bool.false_eq_true, if_false, Nat.add_zero] at ih; exact ih) | (have q1 := b2i_n.mp c_57; simp only [cntI, q1, Bool.true_and, beq_iff_eq, c_67, if_true, if_false, Nat.add_zero] at ih; exact ih)
  refine r_aload_n dX5_glad_0 rfl ?_
  refine r_iload_n dX5_glad_1 rfl ?_
  refine r_callV (as := [_]) okX5_isSet bX5 rfl rfl q1824 dX5_glad_2 (Nat.le_of_ble_eq_true rfl) rfl (Nat.le_of_ble_eq_true rfl) (Nat.le_of_ble_eq_true rfl) (Nat.le_of_ble_eq_true rfl) (pX5_isSetN hn ?_)
  refine r_if_eq 17 dX5_glad_5 (by decide) (fun c_5 => ?_) (fun c_5 => ?_)
  · refine r_aload_n dX5_glad_17 rfl ?_
    refine r_bipush (-2) dX5_glad_18 (by decide) ?_
    refine r_callV (as := [_]) okX5_no bX5 rfl rfl q1633 dX5_glad_20 (Nat.le_of_ble_eq_true rfl) rfl (Nat.le_of_ble_eq_true rfl) (Nat.le_of_ble_eq_true rfl) (Nat.le_of_ble_eq_true rfl) (pX5_no 2 (by decide) (by decide) ?_)
    exact r_iret dX5_glad_23 rfl (Nat.le_of_ble_eq_true rfl) (Nat.le_of_ble_eq_true rfl) (hbad (by simp_all [b2i_0]))
  · refine r_iload_n dX5_glad_8 rfl ?_
    refine r_iconst 0 dX5_glad_9 (by decide) ?_
    refine r_iconst 1 dX5_glad_10 (by decide) ?_
    refine r_callS (as := [_, _, _]) okX5_within q1630 dX5_glad_11 (Nat.le_of_ble_eq_true rfl) rfl (Nat.le_of_ble_eq_true rfl) (Nat.le_of_ble_eq_true rfl) (Nat.le_of_ble_eq_true rfl) (pX5_within ?_)
    refine r_if_ne 24 dX5_glad_14 (by decide) (fun c_14 => ?_) (fun c_14 => ?_)
    · refine r_aload_n dX5_glad_24 rfl ?_
      refine r_iload_n dX5_glad_25 rfl ?_
      refine r_callV (as := [_]) okX5_gladOf bX5 rfl rfl q1840 dX5_glad_26 (Nat.le_of_ble_eq_true rfl) rfl (Nat.le_of_ble_eq_true rfl) (Nat.le_of_ble_eq_true rfl) (Nat.le_of_ble_eq_true rfl) (pX5_gladOf hn hk ho (fun od2 hod => ?_))
      refine r_istore_n dX5_glad_29 (Nat.le_of_ble_eq_true rfl) ?_
      refine r_iload_n dX5_glad_30 rfl ?_
      refine r_if_ne 36 dX5_glad_31 (by decide) (fun c_31 => ?_) (fun c_31 => ?_)
      · obtain ⟨z, hz, rfl⟩ := inB_ex 1 (by decide) (b2i_n.mp c_14)
        have hz1 : z = 1 := by
          rcases (show z = 0 ∨ z = 1 by omega) with rfl | rfl
          · exact absurd rfl c_31
          · rfl
        subst hz1
        exact hgo (b2i_n.mp c_5) rfl _ _ _
      · refine r_iload_n dX5_glad_34 rfl ?_
        exact r_iret dX5_glad_35 rfl (Nat.le_of_ble_eq_true rfl) (Nat.le_of_ble_eq_true rfl) (h0 (b2i_n.mp c_5) c_31 _ _ _ _ _)
    · refine r_aload_n dX5_glad_17 rfl ?_
      refine r_bipush (-2) dX5_glad_18 (by decide) ?_
      refine r_callV (as := [_]) okX5_no bX5 rfl rfl q1633 dX5_glad_20 (Nat.le_of_ble_eq_true rfl) rfl (Nat.le_of_ble_eq_true rfl) (Nat.le_of_ble_eq_true rfl) (Nat.le_of_ble_eq_true rfl) (pX5_no 2 (by decide) (by decide) ?_)
      exact r_iret dX5_glad_23 rfl (Nat.le_of_ble_eq_true rfl) (Nat.le_of_ble_eq_true rfl) (hbad (by simp_all [b2i_0]))
theorem pX5_order {s i : Int32} (hn : n ≤ 8) (hbad : (inB s 0 (allS n) && inB i 0 (bcF s - 1)) = false → Q (some (.int (-2))) ((mC th kd ow ag lk co sh hs tp hd rl ro (upd rf 2 (rf 2 + 1)) ol ah tr od tk fo wi ou ge mo (nI n) ev se td fr to tn va im lo), r)) (hok : inB s 0 (allS n) = true → ∀ q, q < (ordL ag s n).length → i = nI q → ∀ (od : Nat → Int32) (lo : Int32), Q (some (.int (nI ((ordL ag s n).getD q 0)))) ((mC th kd ow ag lk co sh hs tp hd rl ro rf ol ah tr od tk fo wi ou ge mo (nI n) ev se td fr to tn va im lo), r)) : AMet mX5_order 3 0 0 [.ref 0, .int s, .int i] ((mC th kd ow ag lk co sh hs tp hd rl ro rf ol ah tr od tk fo wi ou ge mo (nI n) ev se td fr to tn va im lo), r) Q := by
  refine AMet.ofRch rfl rfl (Nat.le_of_ble_eq_true rfl) ?_
  have hlen := ordL_len ag s n
  refine r_aload_n dX5_order_0 rfl ?_
  refine r_iload_n dX5_order_1 rfl ?_
  refine r_callV (as := [_]) okX5_isSet bX5 rfl rfl q1824 dX5_order_2 (Nat.le_of_ble_eq_true rfl) rfl (Nat.le_of_ble_eq_true rfl) (Nat.le_of_ble_eq_true rfl) (Nat.le_of_ble_eq_true rfl) (pX5_isSetN hn ?_)
  refine r_if_eq 22 dX5_order_5 (by decide) (fun c_5 => ?_) (fun c_5 => ?_)
  · refine r_aload_n dX5_order_22 rfl ?_
    refine r_bipush (-2) dX5_order_23 (by decide) ?_
    refine r_callV (as := [_]) okX5_no bX5 rfl rfl q1633 dX5_order_25 (Nat.le_of_ble_eq_true rfl) rfl (Nat.le_of_ble_eq_true rfl) (Nat.le_of_ble_eq_true rfl) (Nat.le_of_ble_eq_true rfl) (pX5_no 2 (by decide) (by decide) ?_)
    exact r_iret dX5_order_28 rfl (Nat.le_of_ble_eq_true rfl) (Nat.le_of_ble_eq_true rfl) (hbad (by simp_all [b2i_0]))
  · refine r_iload_n dX5_order_8 rfl ?_
    refine r_iconst 0 dX5_order_9 (by decide) ?_
    refine r_iload_n dX5_order_10 rfl ?_
    refine r_callS (as := [_]) okJ18_bitCount q1852 dX5_order_11 (Nat.le_of_ble_eq_true rfl) rfl (Nat.le_of_ble_eq_true rfl) (Nat.le_of_ble_eq_true rfl) (Nat.le_of_ble_eq_true rfl) (pJ18_bitCount ?_)
    refine r_iconst 1 dX5_order_14 (by decide) ?_
    refine r_isub dX5_order_15 ?_
    refine r_callS (as := [_, _, _]) okX5_within q1630 dX5_order_16 (Nat.le_of_ble_eq_true rfl) rfl (Nat.le_of_ble_eq_true rfl) (Nat.le_of_ble_eq_true rfl) (Nat.le_of_ble_eq_true rfl) (pX5_within ?_)
    refine r_if_ne 29 dX5_order_19 (by decide) (fun c_19 => ?_) (fun c_19 => ?_)
    · obtain ⟨z, hz, rfl⟩ := inB_ex (2 ^ n - 1) (nI_toInt (by have := p2_le hn; omega)) (b2i_n.mp c_5)
      have hz2 : z < 2 ^ n := by have := p2_pos n; omega
      have g := b2i_n.mp c_19
      rw [bc_cnt hn hz2, ← ordL_cnt ag] at g
      obtain ⟨q, hq, rfl⟩ := inB_m g (by omega)
      refine r_aload_n dX5_order_29 rfl ?_
      refine r_iload_n dX5_order_30 rfl ?_
      refine r_callV (as := [_]) okX5_orders bX5 rfl rfl q1687 dX5_order_31 (Nat.le_of_ble_eq_true rfl) rfl (Nat.le_of_ble_eq_true rfl) (Nat.le_of_ble_eq_true rfl) (Nat.le_of_ble_eq_true rfl) (pX5_orders hn (fun od2 hod => ?_))
      refine r_aload_n dX5_order_34 rfl ?_
      refine r_get bX5 26 (by decide) q1549 dX5_order_35 rfl rfl ?_
      refine r_iload_n dX5_order_38 rfl ?_
      refine r_ialdN dX5_order_39 rfl (by omega) (Nat.le_of_ble_eq_true rfl) ?_
      rw [hod q hq]
      exact r_iret dX5_order_40 rfl (Nat.le_of_ble_eq_true rfl) (Nat.le_of_ble_eq_true rfl) (hok (b2i_n.mp c_5) q hq rfl _ _)
    · refine r_aload_n dX5_order_22 rfl ?_
      refine r_bipush (-2) dX5_order_23 (by decide) ?_
      refine r_callV (as := [_]) okX5_no bX5 rfl rfl q1633 dX5_order_25 (Nat.le_of_ble_eq_true rfl) rfl (Nat.le_of_ble_eq_true rfl) (Nat.le_of_ble_eq_true rfl) (Nat.le_of_ble_eq_true rfl) (pX5_no 2 (by decide) (by decide) ?_)
      exact r_iret dX5_order_28 rfl (Nat.le_of_ble_eq_true rfl) (Nat.le_of_ble_eq_true rfl) (hbad (by simp_all [b2i_0]))
theorem pX5_away {l w : Int32} (hn : n ≤ 8) (hk : ∀ j, j < n → kd j = nI (kN j) ∧ kN j < 6) (ho : ∀ j, j < n → ow j ≠ -1) (hbad : (inB l 0 (nI n - 1) && inB w 0 1) = false → Q (some (.int (-2))) ((mC th kd ow ag lk co sh hs tp hd rl ro (upd rf 2 (rf 2 + 1)) ol ah tr od tk fo wi ou ge mo (nI n) ev se td fr to tn va im lo), r)) (hok : ∀ j, j < n → l = nI j → inB w 0 1 = true → ∀ (tr tk fo od : Nat → Int32) (lo : Int32), Q (some (.int (if awF kN ow lk ag n th j (2 ^ n) = -1 ∨ w = 1 then awF kN ow lk ag n th j (2 ^ n) else bcF (awF kN ow lk ag n th j (2 ^ n))))) ((mC th kd ow ag lk co sh hs tp hd rl ro rf ol ah tr od tk fo wi ou ge mo (nI n) ev se td fr to tn va im lo), r)) : AMet mX5_away 6 0 0 [.ref 0, .int l, .int w] ((mC th kd ow ag lk co sh hs tp hd rl ro rf ol ah tr od tk fo wi ou ge mo (nI n) ev se td fr to tn va im lo), r) Q := by
  refine AMet.ofRch rfl rfl (Nat.le_of_ble_eq_true rfl) ?_
  have h2 := p2_le hn
  have h3 := p2_pos n
  have hgo : ∀ j, j < n → l = nI j → inB w 0 1 = true → Rch (mX5_away, 6, 0, 0, oQ Q) 0 0 24 [some (.ref 0), some (.int l), some (.int w), none, none, none] [] ((mC th kd ow ag lk co sh hs tp hd rl ro rf ol ah tr od tk fo wi ou ge mo (nI n) ev se td fr to tn va im lo), r) := by
    intro j hj e hw
    subst e
    refine r_iconst 1 dX5_away_24 (by decide) ?_
    refine r_aload_n dX5_away_25 rfl ?_
    refine r_get bX5 1 (by decide) q1524 dX5_away_26 rfl rfl ?_
    refine r_ishl dX5_away_29 ?_
    refine r_iconst 1 dX5_away_30 (by decide) ?_
    refine r_isub dX5_away_31 ?_
    rw [shl1m hn]
    refine r_istore_n dX5_away_32 (Nat.le_of_ble_eq_true rfl) ?_
    refine r_iconst (-1) dX5_away_33 (by decide) ?_
    refine r_istore dX5_away_34 (Nat.le_of_ble_eq_true rfl) ?_
    refine r_iconst 0 dX5_away_36 (by decide) ?_
    refine r_istore dX5_away_37 (Nat.le_of_ble_eq_true rfl) ?_
    refine loopUp (N := 2 ^ n) (P := fun k => ∀ (tr tk fo od : Nat → Int32) (lo : Int32), Rch (mX5_away, 6, 0, 0, oQ Q) 0 0 39 [some (.ref 0), some (.int (nI j)), some (.int w), some (.int (allS n)), some (.int (awF kN ow lk ag n th j k)), some (.int (nI k))] [] ((mC th kd ow ag lk co sh hs tp hd rl ro rf ol ah tr od tk fo wi ou ge mo (nI n) ev se td fr to tn va im lo), r)) ?_ ?_ _ _ _ _ _
    · intro tr tk fo od lo
      refine r_iload dX5_away_39 rfl ?_
      refine r_iload_n dX5_away_41 rfl ?_
      refine r_icmp_gt 104 dX5_away_42 (by decide) (fun _ => ?_) (fun c_ => absurd (nI_lt (by omega) (by omega)) c_)
      refine r_iload dX5_away_104 rfl ?_
      refine r_iconst (-1) dX5_away_106 (by decide) ?_
      refine r_icmp_eq 115 dX5_away_107 (by decide) (fun c_107 => ?_) (fun c_107 => ?_)
      · refine r_iload dX5_away_115 rfl ?_
        refine r_goto 125 dX5_away_117 (by decide) ?_
        exact r_iret dX5_away_125 rfl (Nat.le_of_ble_eq_true rfl) (Nat.le_of_ble_eq_true rfl) (qi (by first | rw [if_pos (Or.inl c_107)] | rw [if_pos (Or.inr c_112)] | rw [if_neg (fun z => z.elim c_107 c_112)]) (hok j hj rfl hw _ _ _ _ _))
      · refine r_iload_n dX5_away_110 rfl ?_
        refine r_iconst 1 dX5_away_111 (by decide) ?_
        refine r_icmp_ne 120 dX5_away_112 (by decide) (fun c_112 => ?_) (fun c_112 => ?_)
        · refine r_iload dX5_away_120 rfl ?_
          refine r_callS (as := [_]) okJ18_bitCount q1852 dX5_away_122 (Nat.le_of_ble_eq_true rfl) rfl (Nat.le_of_ble_eq_true rfl) (Nat.le_of_ble_eq_true rfl) (Nat.le_of_ble_eq_true rfl) (pJ18_bitCount ?_)
          exact r_iret dX5_away_125 rfl (Nat.le_of_ble_eq_true rfl) (Nat.le_of_ble_eq_true rfl) (qi (by first | rw [if_pos (Or.inl c_107)] | rw [if_pos (Or.inr c_112)] | rw [if_neg (fun z => z.elim c_107 c_112)]) (hok j hj rfl hw _ _ _ _ _))
        · refine r_iload dX5_away_115 rfl ?_
          refine r_goto 125 dX5_away_117 (by decide) ?_
          exact r_iret dX5_away_125 rfl (Nat.le_of_ble_eq_true rfl) (Nat.le_of_ble_eq_true rfl) (qi (by first | rw [if_pos (Or.inl c_107)] | rw [if_pos (Or.inr c_112)] | rw [if_neg (fun z => z.elim c_107 c_112)]) (hok j hj rfl hw _ _ _ _ _))
    · intro k hk2 ih tr tk fo od lo
      refine r_iload dX5_away_39 rfl ?_
      refine r_iload_n dX5_away_41 rfl ?_
      refine r_icmp_gt 104 dX5_away_42 (by decide) (fun c_ => absurd c_ (nI_nlt (by omega) (by omega))) (fun _ => ?_)
      refine r_iload dX5_away_45 rfl ?_
      refine r_iload_n dX5_away_47 rfl ?_
      refine r_callS (as := [_, _]) okX5_in q1691 dX5_away_48 (Nat.le_of_ble_eq_true rfl) rfl (Nat.le_of_ble_eq_true rfl) (Nat.le_of_ble_eq_true rfl) (Nat.le_of_ble_eq_true rfl) (pX5_in ?_)
      refine r_if_ne 98 dX5_away_51 (by decide) (fun c_51 => ?_) (fun c_51 => ?_)
      · refine r_iincV dX5_away_98 rfl (Nat.le_of_ble_eq_true rfl) (incN _) ?_
        refine r_goto 39 dX5_away_101 (by decide) ?_
        first | (have q1 := b2i_n.mp c_51; rw [awF, if_neg (fun z => by rw [q1] at z; exact absurd z.1 (by decide))] at ih; exact ih _ _ _ _ _) | (have q1 := b2i_0.mp c_51; rw [awF, if_neg (fun z => z.2.1.elim c_57 c_70)] at ih; exact ih _ _ _ _ _)
      · refine r_iload dX5_away_54 rfl ?_
        refine r_iconst (-1) dX5_away_56 (by decide) ?_
        refine r_icmp_eq 76 dX5_away_57 (by decide) (fun c_57 => ?_) (fun c_57 => ?_)
        · have q1 := b2i_0.mp c_51
          have q2 : awF kN ow lk ag n th j k = -1 ∨ bcF (nI k) < bcF (awF kN ow lk ag n th j k) := by first | exact Or.inl c_57 | exact Or.inr c_70
          refine r_aload_n dX5_away_76 rfl ?_
          refine r_iload_n dX5_away_77 rfl ?_
          refine r_iload dX5_away_78 rfl ?_
          refine r_iconst (-1) dX5_away_80 (by decide) ?_
          refine r_ixor dX5_away_81 ?_
          refine r_iand dX5_away_82 ?_
          refine r_callV (as := [_]) okX5_runs bX5 rfl rfl q1679 dX5_away_83 (Nat.le_of_ble_eq_true rfl) rfl (Nat.le_of_ble_eq_true rfl) (Nat.le_of_ble_eq_true rfl) (Nat.le_of_ble_eq_true rfl) (pX5_runs hn hk ho (fun od2 hod => ?_))
          refine r_aload_n dX5_away_86 rfl ?_
          refine r_iload_n dX5_away_87 rfl ?_
          refine r_callV (as := [_]) okX5_isGlad bX5 rfl rfl q1844 dX5_away_88 (Nat.le_of_ble_eq_true rfl) rfl (Nat.le_of_ble_eq_true rfl) (Nat.le_of_ble_eq_true rfl) (Nat.le_of_ble_eq_true rfl) (pX5_isGlad (by omega) ?_)
          refine r_if_eq 98 dX5_away_91 (by decide) (fun c_91 => ?_) (fun c_91 => ?_)
          · refine r_iincV dX5_away_98 rfl (Nat.le_of_ble_eq_true rfl) (incN _) ?_
            refine r_goto 39 dX5_away_101 (by decide) ?_
            first | (have q3 := b2i_n.mp c_91; rw [awF, if_pos ⟨q1, q2, q3⟩] at ih; exact ih _ _ _ _ _) | (have q3 := b2i_0.mp c_91; rw [awF, if_neg (fun z => by rw [glF, q3] at z; exact absurd z.2.2 (by decide))] at ih; exact ih _ _ _ _ _)
          · refine r_iload dX5_away_94 rfl ?_
            refine r_istore dX5_away_96 (Nat.le_of_ble_eq_true rfl) ?_
            refine r_iincV dX5_away_98 rfl (Nat.le_of_ble_eq_true rfl) (incN _) ?_
            refine r_goto 39 dX5_away_101 (by decide) ?_
            first | (have q3 := b2i_n.mp c_91; rw [awF, if_pos ⟨q1, q2, q3⟩] at ih; exact ih _ _ _ _ _) | (have q3 := b2i_0.mp c_91; rw [awF, if_neg (fun z => by rw [glF, q3] at z; exact absurd z.2.2 (by decide))] at ih; exact ih _ _ _ _ _)
        · refine r_iload dX5_away_60 rfl ?_
          refine r_callS (as := [_]) okJ18_bitCount q1852 dX5_away_62 (Nat.le_of_ble_eq_true rfl) rfl (Nat.le_of_ble_eq_true rfl) (Nat.le_of_ble_eq_true rfl) (Nat.le_of_ble_eq_true rfl) (pJ18_bitCount ?_)
          refine r_iload dX5_away_65 rfl ?_
          refine r_callS (as := [_]) okJ18_bitCount q1852 dX5_away_67 (Nat.le_of_ble_eq_true rfl) rfl (Nat.le_of_ble_eq_true rfl) (Nat.le_of_ble_eq_true rfl) (Nat.le_of_ble_eq_true rfl) (pJ18_bitCount ?_)
          refine r_icmp_lt 76 dX5_away_70 (by decide) (fun c_70 => ?_) (fun c_70 => ?_)
          · have q1 := b2i_0.mp c_51
            have q2 : awF kN ow lk ag n th j k = -1 ∨ bcF (nI k) < bcF (awF kN ow lk ag n th j k) := by first | exact Or.inl c_57 | exact Or.inr c_70
            refine r_aload_n dX5_away_76 rfl ?_
            refine r_iload_n dX5_away_77 rfl ?_
            refine r_iload dX5_away_78 rfl ?_
            refine r_iconst (-1) dX5_away_80 (by decide) ?_
            refine r_ixor dX5_away_81 ?_
            refine r_iand dX5_away_82 ?_
            refine r_callV (as := [_]) okX5_runs bX5 rfl rfl q1679 dX5_away_83 (Nat.le_of_ble_eq_true rfl) rfl (Nat.le_of_ble_eq_true rfl) (Nat.le_of_ble_eq_true rfl) (Nat.le_of_ble_eq_true rfl) (pX5_runs hn hk ho (fun od2 hod => ?_))
            refine r_aload_n dX5_away_86 rfl ?_
            refine r_iload_n dX5_away_87 rfl ?_
            refine r_callV (as := [_]) okX5_isGlad bX5 rfl rfl q1844 dX5_away_88 (Nat.le_of_ble_eq_true rfl) rfl (Nat.le_of_ble_eq_true rfl) (Nat.le_of_ble_eq_true rfl) (Nat.le_of_ble_eq_true rfl) (pX5_isGlad (by omega) ?_)
            refine r_if_eq 98 dX5_away_91 (by decide) (fun c_91 => ?_) (fun c_91 => ?_)
            · refine r_iincV dX5_away_98 rfl (Nat.le_of_ble_eq_true rfl) (incN _) ?_
              refine r_goto 39 dX5_away_101 (by decide) ?_
              first | (have q3 := b2i_n.mp c_91; rw [awF, if_pos ⟨q1, q2, q3⟩] at ih; exact ih _ _ _ _ _) | (have q3 := b2i_0.mp c_91; rw [awF, if_neg (fun z => by rw [glF, q3] at z; exact absurd z.2.2 (by decide))] at ih; exact ih _ _ _ _ _)
            · refine r_iload dX5_away_94 rfl ?_
              refine r_istore dX5_away_96 (Nat.le_of_ble_eq_true rfl) ?_
              refine r_iincV dX5_away_98 rfl (Nat.le_of_ble_eq_true rfl) (incN _) ?_
              refine r_goto 39 dX5_away_101 (by decide) ?_
              first | (have q3 := b2i_n.mp c_91; rw [awF, if_pos ⟨q1, q2, q3⟩] at ih; exact ih _ _ _ _ _) | (have q3 := b2i_0.mp c_91; rw [awF, if_neg (fun z => by rw [glF, q3] at z; exact absurd z.2.2 (by decide))] at ih; exact ih _ _ _ _ _)
          · refine r_goto 98 dX5_away_73 (by decide) ?_
            refine r_iincV dX5_away_98 rfl (Nat.le_of_ble_eq_true rfl) (incN _) ?_
            refine r_goto 39 dX5_away_101 (by decide) ?_
            first | (have q1 := b2i_n.mp c_51; rw [awF, if_neg (fun z => by rw [q1] at z; exact absurd z.1 (by decide))] at ih; exact ih _ _ _ _ _) | (have q1 := b2i_0.mp c_51; rw [awF, if_neg (fun z => z.2.1.elim c_57 c_70)] at ih; exact ih _ _ _ _ _)
  refine r_aload_n dX5_away_0 rfl ?_
  refine r_iload_n dX5_away_1 rfl ?_
  refine r_callV (as := [_]) okX5_isLooker bX5 rfl rfl q1668 dX5_away_2 (Nat.le_of_ble_eq_true rfl) rfl (Nat.le_of_ble_eq_true rfl) (Nat.le_of_ble_eq_true rfl) (Nat.le_of_ble_eq_true rfl) (pX5_isLooker ?_)
  refine r_if_eq 17 dX5_away_5 (by decide) (fun c_5 => ?_) (fun c_5 => ?_)
  · refine r_aload_n dX5_away_17 rfl ?_
    refine r_bipush (-2) dX5_away_18 (by decide) ?_
    refine r_callV (as := [_]) okX5_no bX5 rfl rfl q1633 dX5_away_20 (Nat.le_of_ble_eq_true rfl) rfl (Nat.le_of_ble_eq_true rfl) (Nat.le_of_ble_eq_true rfl) (Nat.le_of_ble_eq_true rfl) (pX5_no 2 (by decide) (by decide) ?_)
    exact r_iret dX5_away_23 rfl (Nat.le_of_ble_eq_true rfl) (Nat.le_of_ble_eq_true rfl) (hbad (by simp_all [b2i_0]))
  · refine r_iload_n dX5_away_8 rfl ?_
    refine r_iconst 0 dX5_away_9 (by decide) ?_
    refine r_iconst 1 dX5_away_10 (by decide) ?_
    refine r_callS (as := [_, _, _]) okX5_within q1630 dX5_away_11 (Nat.le_of_ble_eq_true rfl) rfl (Nat.le_of_ble_eq_true rfl) (Nat.le_of_ble_eq_true rfl) (Nat.le_of_ble_eq_true rfl) (pX5_within ?_)
    refine r_if_ne 24 dX5_away_14 (by decide) (fun c_14 => ?_) (fun c_14 => ?_)
    · obtain ⟨j, hj, e⟩ := inB_m (b2i_n.mp c_5) (by omega)
      exact hgo j hj e (b2i_n.mp c_14)
    · refine r_aload_n dX5_away_17 rfl ?_
      refine r_bipush (-2) dX5_away_18 (by decide) ?_
      refine r_callV (as := [_]) okX5_no bX5 rfl rfl q1633 dX5_away_20 (Nat.le_of_ble_eq_true rfl) rfl (Nat.le_of_ble_eq_true rfl) (Nat.le_of_ble_eq_true rfl) (Nat.le_of_ble_eq_true rfl) (pX5_no 2 (by decide) (by decide) ?_)
      exact r_iret dX5_away_23 rfl (Nat.le_of_ble_eq_true rfl) (Nat.le_of_ble_eq_true rfl) (hbad (by simp_all [b2i_0]))
end MM
