set_option maxRecDepth 100000
/-! the reference: kinds, pairs, ways -/
/-- products and sums over lookers and sets -/
def waF (co : Nat → Int32) (set : Int32) (sk : Nat → Bool) : Nat → Int64
  | 0 => 1
  | l + 1 => if sk l = true then waF co set sk l else waF co set sk l * (if hasB set (nI l) = true then (co l).toInt64 else (12 - co l).toInt64)
def alF (sk : Nat → Bool) : Nat → Int64
  | 0 => 1
  | l + 1 => if sk l = true then alF sk l else alF sk l * 12
def suF (c : Nat → Bool) (w : Nat → Int64) : Nat → Int64
  | 0 => 0
  | k + 1 => if c k = true then suF c w k + w k else suF c w k
theorem al_pow (sk : Nat → Bool) : ∀ n, ∃ m, m ≤ n ∧ alF sk n = lN (12 ^ m)
  | 0 => ⟨0, Nat.le_refl _, rfl⟩
  | n + 1 => by
    obtain ⟨m, h1, h2⟩ := al_pow sk n
    simp only [alF]
    split
    · exact ⟨m, by omega, h2⟩
    · exact ⟨m + 1, by omega, by rw [h2, show (12 : Int64) = lN 12 from rfl, lN_mul]; rfl⟩
theorem al_ne {sk : Nat → Bool} {n : Nat} (hn : n ≤ 8) : ¬ alF sk n = 0 := by
  obtain ⟨m, h1, h2⟩ := al_pow sk n
  rw [h2]
  rcases (show m = 0 ∨ m = 1 ∨ m = 2 ∨ m = 3 ∨ m = 4 ∨ m = 5 ∨ m = 6 ∨ m = 7 ∨ m = 8 by omega) with rfl | rfl | rfl | rfl | rfl | rfl | rfl | rfl | rfl <;> decide
section MM
variable {th kd ow ag lk co sh hs tp hd rl : Nat → Int32} {ro : Nat → Int64} {rf ol ah tr od tk fo wi ou ge mo : Nat → Int32} {my ev se td fr to tn va im lo : Int32} {r : List AC × List AC × List AC} {Q : Option Value → AHp → Prop}
variable {n : Nat} {kN : Nat → Nat}
theorem pX5_bestPair (hn : n ≤ 8) (hk : ∀ j, j < n → kd j = nI (kN j) ∧ kN j < 6) (ho : ∀ j, j < n → ow j ≠ -1) (hQ : ∀ (tr tk fo od : Nat → Int32) (lo : Int32), Q (some (.int (bpO kN ow lk ag n th n).1)) ((mC th kd ow ag lk co sh hs tp hd rl ro rf ol ah tr od tk fo wi ou ge mo (nI n) ev se td fr to tn va im lo), r)) : AMet mX5_bestPair 8 0 0 [.ref 0] ((mC th kd ow ag lk co sh hs tp hd rl ro rf ol ah tr od tk fo wi ou ge mo (nI n) ev se td fr to tn va im lo), r) Q := by
  refine AMet.ofRch rfl rfl (Nat.le_of_ble_eq_true rfl) ?_
  refine r_iconst (-1) dX5_bestPair_0 (by decide) ?_
  refine r_istore_n dX5_bestPair_1 (Nat.le_of_ble_eq_true rfl) ?_
  refine r_iconst (-1) dX5_bestPair_2 (by decide) ?_
  refine r_istore_n dX5_bestPair_3 (Nat.le_of_ble_eq_true rfl) ?_
  refine r_iconst 0 dX5_bestPair_4 (by decide) ?_
  refine r_istore_n dX5_bestPair_5 (Nat.le_of_ble_eq_true rfl) ?_
  refine loopUp (N := n) (P := fun k => ∀ (tr tk fo od : Nat → Int32) (lo : Int32), Rch (mX5_bestPair, 8, 0, 0, oQ Q) 0 0 6 [some (.ref 0), some (.int (bpO kN ow lk ag n th k).1), some (.int (bpO kN ow lk ag n th k).2), some (.int (nI k)), none, none] [] ((mC th kd ow ag lk co sh hs tp hd rl ro rf ol ah tr od tk fo wi ou ge mo (nI n) ev se td fr to tn va im lo), r)) ?_ ?_ _ _ _ _ _
  · intro tr tk fo od lo
    refine r_iload_n dX5_bestPair_6 rfl ?_
    refine r_aload_n dX5_bestPair_7 rfl ?_
    refine r_get bX5 1 (by decide) q1524 dX5_bestPair_8 rfl rfl ?_
    refine r_icmp_ge 69 dX5_bestPair_11 (by decide) (fun _ => ?_) (fun c_ => absurd (Int32.le_refl _) c_)
    refine r_iload_n dX5_bestPair_69 rfl ?_
    exact r_iret dX5_bestPair_70 rfl (Nat.le_of_ble_eq_true rfl) (Nat.le_of_ble_eq_true rfl) (hQ _ _ _ _ _)
  · intro x hx ih tr tk fo od lo
    refine r_iload_n dX5_bestPair_6 rfl ?_
    refine r_aload_n dX5_bestPair_7 rfl ?_
    refine r_get bX5 1 (by decide) q1524 dX5_bestPair_8 rfl rfl ?_
    refine r_icmp_ge 69 dX5_bestPair_11 (by decide) (fun c_ => absurd c_ (geF hx (by omega))) (fun _ => ?_)
    refine r_iload_n dX5_bestPair_14 rfl ?_
    refine r_iconst 1 dX5_bestPair_15 (by decide) ?_
    refine r_iadd dX5_bestPair_16 ?_
    rw [nI_1]
    refine r_istore dX5_bestPair_17 (Nat.le_of_ble_eq_true rfl) ?_
    refine loopUp (N := n - (x + 1)) (P := fun k => ∀ (tr tk fo od : Nat → Int32) (lo : Int32), Rch (mX5_bestPair, 8, 0, 0, oQ Q) 0 0 19 [some (.ref 0), some (.int (bpI kN ow lk ag n th x (bpO kN ow lk ag n th x) k).1), some (.int (bpI kN ow lk ag n th x (bpO kN ow lk ag n th x) k).2), some (.int (nI x)), some (.int (nI (x + 1 + k))), none] [] ((mC th kd ow ag lk co sh hs tp hd rl ro rf ol ah tr od tk fo wi ou ge mo (nI n) ev se td fr to tn va im lo), r)) ?_ ?_ _ _ _ _ _
    · intro tr tk fo od lo
      rw [show x + 1 + (n - (x + 1)) = n by omega]
      refine r_iload dX5_bestPair_19 rfl ?_
      refine r_aload_n dX5_bestPair_21 rfl ?_
      refine r_get bX5 1 (by decide) q1524 dX5_bestPair_22 rfl rfl ?_
      refine r_icmp_ge 63 dX5_bestPair_25 (by decide) (fun _ => ?_) (fun c_ => absurd (Int32.le_refl _) c_)
      refine r_iincV dX5_bestPair_63 rfl (Nat.le_of_ble_eq_true rfl) (incN _) ?_
      refine r_goto 6 dX5_bestPair_66 (by decide) ?_
      refine r_forget 4 ?_
      exact ih _ _ _ _ _
    · intro k hk2 ih2 tr tk fo od lo
      refine r_iload dX5_bestPair_19 rfl ?_
      refine r_aload_n dX5_bestPair_21 rfl ?_
      refine r_get bX5 1 (by decide) q1524 dX5_bestPair_22 rfl rfl ?_
      refine r_icmp_ge 63 dX5_bestPair_25 (by decide) (fun c_ => absurd c_ (geF (by omega) (by omega))) (fun _ => ?_)
      refine r_aload_n dX5_bestPair_28 rfl ?_
      refine r_iload_n dX5_bestPair_29 rfl ?_
      refine r_iload dX5_bestPair_30 rfl ?_
      refine r_callV (as := [_, _]) okX5_exchanges bX5 rfl rfl q1919 dX5_bestPair_32 (Nat.le_of_ble_eq_true rfl) rfl (Nat.le_of_ble_eq_true rfl) (Nat.le_of_ble_eq_true rfl) (Nat.le_of_ble_eq_true rfl) (pX5_exchanges hn hk ho (by omega) (by omega) (by omega) (fun tr tk fo od lo => ?_))
      refine r_istore dX5_bestPair_35 (Nat.le_of_ble_eq_true rfl) ?_
      refine r_iload dX5_bestPair_37 rfl ?_
      refine r_iload_n dX5_bestPair_39 rfl ?_
      refine r_icmp_gt 46 dX5_bestPair_40 (by decide) (fun c_40 => ?_) (fun c_40 => ?_)
      · refine r_iload dX5_bestPair_46 rfl ?_
        refine r_istore_n dX5_bestPair_48 (Nat.le_of_ble_eq_true rfl) ?_
        refine r_bipush 10 dX5_bestPair_49 (by decide) ?_
        refine r_iload_n dX5_bestPair_51 rfl ?_
        refine r_imul dX5_bestPair_52 ?_
        refine r_iload dX5_bestPair_53 rfl ?_
        refine r_iadd dX5_bestPair_55 ?_
        refine r_istore_n dX5_bestPair_56 (Nat.le_of_ble_eq_true rfl) ?_
        refine r_iincV dX5_bestPair_57 rfl (Nat.le_of_ble_eq_true rfl) (incN _) ?_
        refine r_goto 19 dX5_bestPair_60 (by decide) ?_
        refine r_forget 5 ?_
        first | (rw [bpI, if_pos c_40] at ih2; exact ih2 _ _ _ _ _) | (rw [bpI, if_neg c_40] at ih2; exact ih2 _ _ _ _ _)
      · refine r_goto 57 dX5_bestPair_43 (by decide) ?_
        refine r_iincV dX5_bestPair_57 rfl (Nat.le_of_ble_eq_true rfl) (incN _) ?_
        refine r_goto 19 dX5_bestPair_60 (by decide) ?_
        refine r_forget 5 ?_
        first | (rw [bpI, if_pos c_40] at ih2; exact ih2 _ _ _ _ _) | (rw [bpI, if_neg c_40] at ih2; exact ih2 _ _ _ _ _)
theorem pX5_kinds_bad {s l t w : Int32} (hn : n ≤ 8) (hb : (inB s 0 (allS n) && (inB l 0 (nI n - 1) && (inB t 0 4095 && (inB w 0 1 && hasB s l)))) = false) (hQ : Q (some (.int (-2))) ((mC th kd ow ag lk co sh hs tp hd rl ro (upd rf 2 (rf 2 + 1)) ol ah tr od tk fo wi ou ge mo (nI n) ev se td fr to tn va im lo), r)) : AMet mX5_kinds 6 0 0 [.ref 0, .int s, .int l, .int t, .int w] ((mC th kd ow ag lk co sh hs tp hd rl ro rf ol ah tr od tk fo wi ou ge mo (nI n) ev se td fr to tn va im lo), r) Q := by
  refine AMet.ofRch rfl rfl (Nat.le_of_ble_eq_true rfl) ?_
  refine r_aload_n dX5_kinds_0 rfl ?_
  refine r_iload_n dX5_kinds_1 rfl ?_
  refine r_callV (as := [_]) okX5_isSet bX5 rfl rfl q1824 dX5_kinds_2 (Nat.le_of_ble_eq_true rfl) rfl (Nat.le_of_ble_eq_true rfl) (Nat.le_of_ble_eq_true rfl) (Nat.le_of_ble_eq_true rfl) (pX5_isSetN hn ?_)
  refine r_if_eq 41 dX5_kinds_5 (by decide) (fun c_5 => ?_) (fun c_5 => ?_)
  · refine r_aload_n dX5_kinds_41 rfl ?_
    refine r_bipush (-2) dX5_kinds_42 (by decide) ?_
    refine r_callV (as := [_]) okX5_no bX5 rfl rfl q1633 dX5_kinds_44 (Nat.le_of_ble_eq_true rfl) rfl (Nat.le_of_ble_eq_true rfl) (Nat.le_of_ble_eq_true rfl) (Nat.le_of_ble_eq_true rfl) (pX5_no 2 (by decide) (by decide) ?_)
    exact r_iret dX5_kinds_47 rfl (Nat.le_of_ble_eq_true rfl) (Nat.le_of_ble_eq_true rfl) (hQ)
  · refine r_aload_n dX5_kinds_8 rfl ?_
    refine r_iload_n dX5_kinds_9 rfl ?_
    refine r_callV (as := [_]) okX5_isLooker bX5 rfl rfl q1668 dX5_kinds_10 (Nat.le_of_ble_eq_true rfl) rfl (Nat.le_of_ble_eq_true rfl) (Nat.le_of_ble_eq_true rfl) (Nat.le_of_ble_eq_true rfl) (pX5_isLooker ?_)
    refine r_if_eq 41 dX5_kinds_13 (by decide) (fun c_13 => ?_) (fun c_13 => ?_)
    · refine r_aload_n dX5_kinds_41 rfl ?_
      refine r_bipush (-2) dX5_kinds_42 (by decide) ?_
      refine r_callV (as := [_]) okX5_no bX5 rfl rfl q1633 dX5_kinds_44 (Nat.le_of_ble_eq_true rfl) rfl (Nat.le_of_ble_eq_true rfl) (Nat.le_of_ble_eq_true rfl) (Nat.le_of_ble_eq_true rfl) (pX5_no 2 (by decide) (by decide) ?_)
      exact r_iret dX5_kinds_47 rfl (Nat.le_of_ble_eq_true rfl) (Nat.le_of_ble_eq_true rfl) (hQ)
    · refine r_iload_n dX5_kinds_16 rfl ?_
      refine r_callS (as := [_]) okX5_arePlaces q1873 dX5_kinds_17 (Nat.le_of_ble_eq_true rfl) rfl (Nat.le_of_ble_eq_true rfl) (Nat.le_of_ble_eq_true rfl) (Nat.le_of_ble_eq_true rfl) (pX5_arePlaces ?_)
      refine r_if_eq 41 dX5_kinds_20 (by decide) (fun c_20 => ?_) (fun c_20 => ?_)
      · refine r_aload_n dX5_kinds_41 rfl ?_
        refine r_bipush (-2) dX5_kinds_42 (by decide) ?_
        refine r_callV (as := [_]) okX5_no bX5 rfl rfl q1633 dX5_kinds_44 (Nat.le_of_ble_eq_true rfl) rfl (Nat.le_of_ble_eq_true rfl) (Nat.le_of_ble_eq_true rfl) (Nat.le_of_ble_eq_true rfl) (pX5_no 2 (by decide) (by decide) ?_)
        exact r_iret dX5_kinds_47 rfl (Nat.le_of_ble_eq_true rfl) (Nat.le_of_ble_eq_true rfl) (hQ)
      · refine r_iload dX5_kinds_23 rfl ?_
        refine r_iconst 0 dX5_kinds_25 (by decide) ?_
        refine r_iconst 1 dX5_kinds_26 (by decide) ?_
        refine r_callS (as := [_, _, _]) okX5_within q1630 dX5_kinds_27 (Nat.le_of_ble_eq_true rfl) rfl (Nat.le_of_ble_eq_true rfl) (Nat.le_of_ble_eq_true rfl) (Nat.le_of_ble_eq_true rfl) (pX5_within ?_)
        refine r_if_eq 41 dX5_kinds_30 (by decide) (fun c_30 => ?_) (fun c_30 => ?_)
        · refine r_aload_n dX5_kinds_41 rfl ?_
          refine r_bipush (-2) dX5_kinds_42 (by decide) ?_
          refine r_callV (as := [_]) okX5_no bX5 rfl rfl q1633 dX5_kinds_44 (Nat.le_of_ble_eq_true rfl) rfl (Nat.le_of_ble_eq_true rfl) (Nat.le_of_ble_eq_true rfl) (Nat.le_of_ble_eq_true rfl) (pX5_no 2 (by decide) (by decide) ?_)
          exact r_iret dX5_kinds_47 rfl (Nat.le_of_ble_eq_true rfl) (Nat.le_of_ble_eq_true rfl) (hQ)
        · refine r_iload_n dX5_kinds_33 rfl ?_
          refine r_iload_n dX5_kinds_34 rfl ?_
          refine r_callS (as := [_, _]) okX5_in q1691 dX5_kinds_35 (Nat.le_of_ble_eq_true rfl) rfl (Nat.le_of_ble_eq_true rfl) (Nat.le_of_ble_eq_true rfl) (Nat.le_of_ble_eq_true rfl) (pX5_in ?_)
          refine r_if_ne 48 dX5_kinds_38 (by decide) (fun c_38 => ?_) (fun c_38 => ?_)
          · exact absurd hb (by simp_all [b2i_0])
          · refine r_aload_n dX5_kinds_41 rfl ?_
            refine r_bipush (-2) dX5_kinds_42 (by decide) ?_
            refine r_callV (as := [_]) okX5_no bX5 rfl rfl q1633 dX5_kinds_44 (Nat.le_of_ble_eq_true rfl) rfl (Nat.le_of_ble_eq_true rfl) (Nat.le_of_ble_eq_true rfl) (Nat.le_of_ble_eq_true rfl) (pX5_no 2 (by decide) (by decide) ?_)
            exact r_iret dX5_kinds_47 rfl (Nat.le_of_ble_eq_true rfl) (Nat.le_of_ble_eq_true rfl) (hQ)
theorem pX5_kinds_0 {s t : Int32} {j : Nat} (hn : n ≤ 8) (hk : ∀ j, j < n → kd j = nI (kN j) ∧ kN j < 6) (ho : ∀ j, j < n → ow j ≠ -1) (hj : j < n) (h1 : inB s 0 (allS n) = true) (h2 : inB t 0 4095 = true) (h3 : hasB s (nI j) = true) (hQ : ∀ (tr tk fo od : Nat → Int32) (lo : Int32), Q (some (.int (kiF kN ow lk ag n th s j t 6))) ((mC th kd ow ag lk co sh hs tp hd rl ro rf ol ah tr od tk fo wi ou ge mo (nI n) ev se td fr to tn va im lo), r)) : AMet mX5_kinds 6 0 0 [.ref 0, .int s, .int (nI j), .int t, .int 0] ((mC th kd ow ag lk co sh hs tp hd rl ro rf ol ah tr od tk fo wi ou ge mo (nI n) ev se td fr to tn va im lo), r) Q := by
  refine AMet.ofRch rfl rfl (Nat.le_of_ble_eq_true rfl) ?_
  refine r_aload_n dX5_kinds_0 rfl ?_
  refine r_iload_n dX5_kinds_1 rfl ?_
  refine r_callV (as := [_]) okX5_isSet bX5 rfl rfl q1824 dX5_kinds_2 (Nat.le_of_ble_eq_true rfl) rfl (Nat.le_of_ble_eq_true rfl) (Nat.le_of_ble_eq_true rfl) (Nat.le_of_ble_eq_true rfl) (pX5_isSetN hn ?_)
  refine r_if_eq 41 dX5_kinds_5 (by decide) (fun c_ => absurd c_ (b2i_n.mpr h1)) (fun _ => ?_)
  refine r_aload_n dX5_kinds_8 rfl ?_
  refine r_iload_n dX5_kinds_9 rfl ?_
  refine r_callV (as := [_]) okX5_isLooker bX5 rfl rfl q1668 dX5_kinds_10 (Nat.le_of_ble_eq_true rfl) rfl (Nat.le_of_ble_eq_true rfl) (Nat.le_of_ble_eq_true rfl) (Nat.le_of_ble_eq_true rfl) (pX5_isLooker ?_)
  refine r_if_eq 41 dX5_kinds_13 (by decide) (fun c_ => absurd c_ (b2i_n.mpr (inB_mI hj (by omega)))) (fun _ => ?_)
  refine r_iload_n dX5_kinds_16 rfl ?_
  refine r_callS (as := [_]) okX5_arePlaces q1873 dX5_kinds_17 (Nat.le_of_ble_eq_true rfl) rfl (Nat.le_of_ble_eq_true rfl) (Nat.le_of_ble_eq_true rfl) (Nat.le_of_ble_eq_true rfl) (pX5_arePlaces ?_)
  refine r_if_eq 41 dX5_kinds_20 (by decide) (fun c_ => absurd c_ (b2i_n.mpr h2)) (fun _ => ?_)
  refine r_iload dX5_kinds_23 rfl ?_
  refine r_iconst 0 dX5_kinds_25 (by decide) ?_
  refine r_iconst 1 dX5_kinds_26 (by decide) ?_
  refine r_callS (as := [_, _, _]) okX5_within q1630 dX5_kinds_27 (Nat.le_of_ble_eq_true rfl) rfl (Nat.le_of_ble_eq_true rfl) (Nat.le_of_ble_eq_true rfl) (Nat.le_of_ble_eq_true rfl) (pX5_within ?_)
  refine r_if_eq 41 dX5_kinds_30 (by decide) (fun c_ => absurd c_ (by decide)) (fun _ => ?_)
  refine r_iload_n dX5_kinds_33 rfl ?_
  refine r_iload_n dX5_kinds_34 rfl ?_
  refine r_callS (as := [_, _]) okX5_in q1691 dX5_kinds_35 (Nat.le_of_ble_eq_true rfl) rfl (Nat.le_of_ble_eq_true rfl) (Nat.le_of_ble_eq_true rfl) (Nat.le_of_ble_eq_true rfl) (pX5_in ?_)
  refine r_if_ne 48 dX5_kinds_38 (by decide) (fun _ => ?_) (fun c_ => absurd c_ (b2i_n.mpr h3))
  refine r_aload_n dX5_kinds_48 rfl ?_
  refine r_get bX5 2 (by decide) q1525 dX5_kinds_49 rfl rfl ?_
  refine r_iload_n dX5_kinds_52 rfl ?_
  refine r_ialdN dX5_kinds_53 rfl (by omega) (Nat.le_of_ble_eq_true rfl) ?_
  refine r_istore dX5_kinds_54 (Nat.le_of_ble_eq_true rfl) ?_
  refine r_aload_n dX5_kinds_56 rfl ?_
  refine r_get bX5 3 (by decide) q1526 dX5_kinds_57 rfl rfl ?_
  refine r_iload_n dX5_kinds_60 rfl ?_
  refine r_ialdN dX5_kinds_61 rfl (by omega) (Nat.le_of_ble_eq_true rfl) ?_
  refine r_istore dX5_kinds_62 (Nat.le_of_ble_eq_true rfl) ?_
  refine r_iconst 0 dX5_kinds_64 (by decide) ?_
  refine r_istore dX5_kinds_65 (Nat.le_of_ble_eq_true rfl) ?_
  refine r_iconst 0 dX5_kinds_67 (by decide) ?_
  refine r_istore dX5_kinds_68 (Nat.le_of_ble_eq_true rfl) ?_
  refine eqP (P := fun z => Rch (mX5_kinds, 6, 0, 0, oQ Q) 0 0 70 [some (.ref 0), some (.int s), some (.int (nI j)), some (.int t), some (.int 0), some (.int (kd j)), some (.int (ow j)), some (.int 0), some (.int (nI 0))] [] ((mC th (z) ow ag lk co sh hs tp hd rl ro rf ol ah tr od tk fo wi ou ge mo (nI n) ev se td fr to tn va im lo), r)) (upd_id kd j) ?_
  refine loopUp (N := 6) (P := fun k => ∀ (x : Int32) (tr tk fo od : Nat → Int32) (lo : Int32), Rch (mX5_kinds, 6, 0, 0, oQ Q) 0 0 70 [some (.ref 0), some (.int s), some (.int (nI j)), some (.int t), some (.int 0), some (.int (kd j)), some (.int (ow j)), some (.int (kiF kN ow lk ag n th s j t k)), some (.int (nI k))] [] ((mC th (upd kd j x) ow ag lk co sh hs tp hd rl ro rf ol ah tr od tk fo wi ou ge mo (nI n) ev se td fr to tn va im lo), r)) ?_ ?_ _ _ _ _ _ _
  · intro x tr tk fo od lo
    refine r_iload dX5_kinds_70 rfl ?_
    refine r_iload dX5_kinds_72 rfl ?_
    refine r_if_ne 82 dX5_kinds_74 (by decide) (fun c_ => absurd (rfl) c_) (fun _ => ?_)
    refine r_bipush 6 dX5_kinds_77 (by decide) ?_
    refine r_goto 84 dX5_kinds_79 (by decide) ?_
    refine r_icmp_ge 141 dX5_kinds_84 (by decide) (fun _ => ?_) (fun c_ => absurd (geT 6) c_)
    refine r_aload_n dX5_kinds_141 rfl ?_
    refine r_get bX5 2 (by decide) q1525 dX5_kinds_142 rfl rfl ?_
    refine r_iload_n dX5_kinds_145 rfl ?_
    refine r_iload dX5_kinds_146 rfl ?_
    refine r_iastN dX5_kinds_148 rfl (by omega) (Nat.le_of_ble_eq_true rfl) ?_
    refine r_aload_n dX5_kinds_149 rfl ?_
    refine r_get bX5 3 (by decide) q1526 dX5_kinds_150 rfl rfl ?_
    refine r_iload_n dX5_kinds_153 rfl ?_
    refine r_iload dX5_kinds_154 rfl ?_
    refine r_iastN dX5_kinds_156 rfl (by omega) (Nat.le_of_ble_eq_true rfl) ?_
    refine r_iload dX5_kinds_157 rfl ?_
    exact r_iret dX5_kinds_159 rfl (Nat.le_of_ble_eq_true rfl) (Nat.le_of_ble_eq_true rfl) (by simp only [upd_upd, upd_id]; exact hQ _ _ _ _ _)
  · intro k hk2 ih x tr tk fo od lo
    have hk3 : ∀ i, i < n → upd kd j (nI k) i = nI ((fun i => if i = j then k else kN i) i) ∧ (fun i => if i = j then k else kN i) i < 6 := by
      intro i hi
      by_cases e : i = j
      · subst e
        rw [pk_us]
        simp [hk2]
      · rw [pk_un e]
        simp [e]
        exact hk i hi
    refine r_iload dX5_kinds_70 rfl ?_
    refine r_iload dX5_kinds_72 rfl ?_
    refine r_if_ne 82 dX5_kinds_74 (by decide) (fun c_ => absurd (rfl) c_) (fun _ => ?_)
    refine r_bipush 6 dX5_kinds_77 (by decide) ?_
    refine r_goto 84 dX5_kinds_79 (by decide) ?_
    refine r_icmp_ge 141 dX5_kinds_84 (by decide) (fun c_ => absurd c_ (geF (N := 6) hk2 (by decide))) (fun _ => ?_)
    refine r_iload dX5_kinds_87 rfl ?_
    refine r_if_ne 103 dX5_kinds_89 (by decide) (fun c_ => absurd (rfl) c_) (fun _ => ?_)
    refine r_aload_n dX5_kinds_92 rfl ?_
    refine r_get bX5 2 (by decide) q1525 dX5_kinds_93 rfl rfl ?_
    refine r_iload_n dX5_kinds_96 rfl ?_
    refine r_iload dX5_kinds_97 rfl ?_
    refine r_iastN dX5_kinds_99 rfl (by omega) (Nat.le_of_ble_eq_true rfl) ?_
    refine r_goto 111 dX5_kinds_100 (by decide) ?_
    rw [upd_upd]
    refine r_aload_n dX5_kinds_111 rfl ?_
    refine r_iload_n dX5_kinds_112 rfl ?_
    refine r_callV (as := [_]) okX5_runs bX5 rfl rfl q1679 dX5_kinds_113 (Nat.le_of_ble_eq_true rfl) rfl (Nat.le_of_ble_eq_true rfl) (Nat.le_of_ble_eq_true rfl) (Nat.le_of_ble_eq_true rfl) (pX5_runs (kN := fun i => if i = j then k else kN i) hn hk3 ho (fun od2 hod => ?_))
    refine r_aload_n dX5_kinds_116 rfl ?_
    refine r_get bX5 27 (by decide) q1550 dX5_kinds_117 rfl rfl ?_
    refine r_iload_n dX5_kinds_120 rfl ?_
    refine r_ialdN dX5_kinds_121 rfl (by omega) (Nat.le_of_ble_eq_true rfl) ?_
    refine r_iload_n dX5_kinds_122 rfl ?_
    refine r_icmp_ne 135 dX5_kinds_123 (by decide) (fun c_123 => ?_) (fun c_123 => ?_)
    · refine r_iincV dX5_kinds_135 rfl (Nat.le_of_ble_eq_true rfl) (incN _) ?_
      refine r_goto 70 dX5_kinds_138 (by decide) ?_
      first | (have c2 : ((evR (fun i => if i = j then k else kN i) ow lk ag n th s).2.1 j == t) = true := beq_iff_eq.mpr c_123; simp only [kiF, bitsI, c2, if_true] at ih; exact ih _ _ _ _ _ _) | (have c2 : ((evR (fun i => if i = j then k else kN i) ow lk ag n th s).2.1 j == t) = false := beq_eq_false_iff_ne.mpr c_123; simp only [kiF, bitsI, c2, Bool.false_eq_true, if_false, or0] at ih; exact ih _ _ _ _ _ _)
    · refine r_iload dX5_kinds_126 rfl ?_
      refine r_iconst 1 dX5_kinds_128 (by decide) ?_
      refine r_iload dX5_kinds_129 rfl ?_
      refine r_ishl dX5_kinds_131 ?_
      refine r_ior dX5_kinds_132 ?_
      refine r_istore dX5_kinds_133 (Nat.le_of_ble_eq_true rfl) ?_
      refine r_iincV dX5_kinds_135 rfl (Nat.le_of_ble_eq_true rfl) (incN _) ?_
      refine r_goto 70 dX5_kinds_138 (by decide) ?_
      first | (have c2 : ((evR (fun i => if i = j then k else kN i) ow lk ag n th s).2.1 j == t) = true := beq_iff_eq.mpr c_123; simp only [kiF, bitsI, c2, if_true] at ih; exact ih _ _ _ _ _ _) | (have c2 : ((evR (fun i => if i = j then k else kN i) ow lk ag n th s).2.1 j == t) = false := beq_eq_false_iff_ne.mpr c_123; simp only [kiF, bitsI, c2, Bool.false_eq_true, if_false, or0] at ih; exact ih _ _ _ _ _ _)
theorem pX5_kinds_1 {s t : Int32} {j : Nat} (hn : n ≤ 8) (hk : ∀ j, j < n → kd j = nI (kN j) ∧ kN j < 6) (ho : ∀ j, j < n → ow j ≠ -1) (hj : j < n) (h1 : inB s 0 (allS n) = true) (h2 : inB t 0 4095 = true) (h3 : hasB s (nI j) = true) (hQ : ∀ (tr tk fo od : Nat → Int32) (lo : Int32), Q (some (.int (koF kN ow lk ag n th s j t 8))) ((mC th kd ow ag lk co sh hs tp hd rl ro rf ol ah tr od tk fo wi ou ge mo (nI n) ev se td fr to tn va im lo), r)) : AMet mX5_kinds 6 0 0 [.ref 0, .int s, .int (nI j), .int t, .int 1] ((mC th kd ow ag lk co sh hs tp hd rl ro rf ol ah tr od tk fo wi ou ge mo (nI n) ev se td fr to tn va im lo), r) Q := by
  refine AMet.ofRch rfl rfl (Nat.le_of_ble_eq_true rfl) ?_
  refine r_aload_n dX5_kinds_0 rfl ?_
  refine r_iload_n dX5_kinds_1 rfl ?_
  refine r_callV (as := [_]) okX5_isSet bX5 rfl rfl q1824 dX5_kinds_2 (Nat.le_of_ble_eq_true rfl) rfl (Nat.le_of_ble_eq_true rfl) (Nat.le_of_ble_eq_true rfl) (Nat.le_of_ble_eq_true rfl) (pX5_isSetN hn ?_)
  refine r_if_eq 41 dX5_kinds_5 (by decide) (fun c_ => absurd c_ (b2i_n.mpr h1)) (fun _ => ?_)
  refine r_aload_n dX5_kinds_8 rfl ?_
  refine r_iload_n dX5_kinds_9 rfl ?_
  refine r_callV (as := [_]) okX5_isLooker bX5 rfl rfl q1668 dX5_kinds_10 (Nat.le_of_ble_eq_true rfl) rfl (Nat.le_of_ble_eq_true rfl) (Nat.le_of_ble_eq_true rfl) (Nat.le_of_ble_eq_true rfl) (pX5_isLooker ?_)
  refine r_if_eq 41 dX5_kinds_13 (by decide) (fun c_ => absurd c_ (b2i_n.mpr (inB_mI hj (by omega)))) (fun _ => ?_)
  refine r_iload_n dX5_kinds_16 rfl ?_
  refine r_callS (as := [_]) okX5_arePlaces q1873 dX5_kinds_17 (Nat.le_of_ble_eq_true rfl) rfl (Nat.le_of_ble_eq_true rfl) (Nat.le_of_ble_eq_true rfl) (Nat.le_of_ble_eq_true rfl) (pX5_arePlaces ?_)
  refine r_if_eq 41 dX5_kinds_20 (by decide) (fun c_ => absurd c_ (b2i_n.mpr h2)) (fun _ => ?_)
  refine r_iload dX5_kinds_23 rfl ?_
  refine r_iconst 0 dX5_kinds_25 (by decide) ?_
  refine r_iconst 1 dX5_kinds_26 (by decide) ?_
  refine r_callS (as := [_, _, _]) okX5_within q1630 dX5_kinds_27 (Nat.le_of_ble_eq_true rfl) rfl (Nat.le_of_ble_eq_true rfl) (Nat.le_of_ble_eq_true rfl) (Nat.le_of_ble_eq_true rfl) (pX5_within ?_)
  refine r_if_eq 41 dX5_kinds_30 (by decide) (fun c_ => absurd c_ (by decide)) (fun _ => ?_)
  refine r_iload_n dX5_kinds_33 rfl ?_
  refine r_iload_n dX5_kinds_34 rfl ?_
  refine r_callS (as := [_, _]) okX5_in q1691 dX5_kinds_35 (Nat.le_of_ble_eq_true rfl) rfl (Nat.le_of_ble_eq_true rfl) (Nat.le_of_ble_eq_true rfl) (Nat.le_of_ble_eq_true rfl) (pX5_in ?_)
  refine r_if_ne 48 dX5_kinds_38 (by decide) (fun _ => ?_) (fun c_ => absurd c_ (b2i_n.mpr h3))
  refine r_aload_n dX5_kinds_48 rfl ?_
  refine r_get bX5 2 (by decide) q1525 dX5_kinds_49 rfl rfl ?_
  refine r_iload_n dX5_kinds_52 rfl ?_
  refine r_ialdN dX5_kinds_53 rfl (by omega) (Nat.le_of_ble_eq_true rfl) ?_
  refine r_istore dX5_kinds_54 (Nat.le_of_ble_eq_true rfl) ?_
  refine r_aload_n dX5_kinds_56 rfl ?_
  refine r_get bX5 3 (by decide) q1526 dX5_kinds_57 rfl rfl ?_
  refine r_iload_n dX5_kinds_60 rfl ?_
  refine r_ialdN dX5_kinds_61 rfl (by omega) (Nat.le_of_ble_eq_true rfl) ?_
  refine r_istore dX5_kinds_62 (Nat.le_of_ble_eq_true rfl) ?_
  refine r_iconst 0 dX5_kinds_64 (by decide) ?_
  refine r_istore dX5_kinds_65 (Nat.le_of_ble_eq_true rfl) ?_
  refine r_iconst 0 dX5_kinds_67 (by decide) ?_
  refine r_istore dX5_kinds_68 (Nat.le_of_ble_eq_true rfl) ?_
  refine eqP (P := fun z => Rch (mX5_kinds, 6, 0, 0, oQ Q) 0 0 70 [some (.ref 0), some (.int s), some (.int (nI j)), some (.int t), some (.int 1), some (.int (kd j)), some (.int (ow j)), some (.int 0), some (.int (nI 0))] [] ((mC th kd (z) ag lk co sh hs tp hd rl ro rf ol ah tr od tk fo wi ou ge mo (nI n) ev se td fr to tn va im lo), r)) (upd_id ow j) ?_
  refine loopUp (N := 8) (P := fun k => ∀ (x : Int32) (tr tk fo od : Nat → Int32) (lo : Int32), Rch (mX5_kinds, 6, 0, 0, oQ Q) 0 0 70 [some (.ref 0), some (.int s), some (.int (nI j)), some (.int t), some (.int 1), some (.int (kd j)), some (.int (ow j)), some (.int (koF kN ow lk ag n th s j t k)), some (.int (nI k))] [] ((mC th kd (upd ow j x) ag lk co sh hs tp hd rl ro rf ol ah tr od tk fo wi ou ge mo (nI n) ev se td fr to tn va im lo), r)) ?_ ?_ _ _ _ _ _ _
  · intro x tr tk fo od lo
    refine r_iload dX5_kinds_70 rfl ?_
    refine r_iload dX5_kinds_72 rfl ?_
    refine r_if_ne 82 dX5_kinds_74 (by decide) (fun _ => ?_) (fun c_ => absurd c_ (by decide))
    refine r_bipush 8 dX5_kinds_82 (by decide) ?_
    refine r_icmp_ge 141 dX5_kinds_84 (by decide) (fun _ => ?_) (fun c_ => absurd (geT 8) c_)
    refine r_aload_n dX5_kinds_141 rfl ?_
    refine r_get bX5 2 (by decide) q1525 dX5_kinds_142 rfl rfl ?_
    refine r_iload_n dX5_kinds_145 rfl ?_
    refine r_iload dX5_kinds_146 rfl ?_
    refine r_iastN dX5_kinds_148 rfl (by omega) (Nat.le_of_ble_eq_true rfl) ?_
    refine r_aload_n dX5_kinds_149 rfl ?_
    refine r_get bX5 3 (by decide) q1526 dX5_kinds_150 rfl rfl ?_
    refine r_iload_n dX5_kinds_153 rfl ?_
    refine r_iload dX5_kinds_154 rfl ?_
    refine r_iastN dX5_kinds_156 rfl (by omega) (Nat.le_of_ble_eq_true rfl) ?_
    refine r_iload dX5_kinds_157 rfl ?_
    exact r_iret dX5_kinds_159 rfl (Nat.le_of_ble_eq_true rfl) (Nat.le_of_ble_eq_true rfl) (by simp only [upd_upd, upd_id]; exact hQ _ _ _ _ _)
  · intro k hk2 ih x tr tk fo od lo
    have ho3 : ∀ i, i < n → upd ow j (nI k) i ≠ -1 := by
      intro i hi
      by_cases e : i = j
      · subst e
        rw [pk_us]
        exact nI_m1 (by omega)
      · rw [pk_un e]
        exact ho i hi
    refine r_iload dX5_kinds_70 rfl ?_
    refine r_iload dX5_kinds_72 rfl ?_
    refine r_if_ne 82 dX5_kinds_74 (by decide) (fun _ => ?_) (fun c_ => absurd c_ (by decide))
    refine r_bipush 8 dX5_kinds_82 (by decide) ?_
    refine r_icmp_ge 141 dX5_kinds_84 (by decide) (fun c_ => absurd c_ (geF (N := 8) hk2 (by decide))) (fun _ => ?_)
    refine r_iload dX5_kinds_87 rfl ?_
    refine r_if_ne 103 dX5_kinds_89 (by decide) (fun _ => ?_) (fun c_ => absurd c_ (by decide))
    refine r_aload_n dX5_kinds_103 rfl ?_
    refine r_get bX5 3 (by decide) q1526 dX5_kinds_104 rfl rfl ?_
    refine r_iload_n dX5_kinds_107 rfl ?_
    refine r_iload dX5_kinds_108 rfl ?_
    refine r_iastN dX5_kinds_110 rfl (by omega) (Nat.le_of_ble_eq_true rfl) ?_
    rw [upd_upd]
    refine r_aload_n dX5_kinds_111 rfl ?_
    refine r_iload_n dX5_kinds_112 rfl ?_
    refine r_callV (as := [_]) okX5_runs bX5 rfl rfl q1679 dX5_kinds_113 (Nat.le_of_ble_eq_true rfl) rfl (Nat.le_of_ble_eq_true rfl) (Nat.le_of_ble_eq_true rfl) (Nat.le_of_ble_eq_true rfl) (pX5_runs hn hk ho3 (fun od2 hod => ?_))
    refine r_aload_n dX5_kinds_116 rfl ?_
    refine r_get bX5 27 (by decide) q1550 dX5_kinds_117 rfl rfl ?_
    refine r_iload_n dX5_kinds_120 rfl ?_
    refine r_ialdN dX5_kinds_121 rfl (by omega) (Nat.le_of_ble_eq_true rfl) ?_
    refine r_iload_n dX5_kinds_122 rfl ?_
    refine r_icmp_ne 135 dX5_kinds_123 (by decide) (fun c_123 => ?_) (fun c_123 => ?_)
    · refine r_iincV dX5_kinds_135 rfl (Nat.le_of_ble_eq_true rfl) (incN _) ?_
      refine r_goto 70 dX5_kinds_138 (by decide) ?_
      first | (have c2 : ((evR kN (upd ow j (nI k)) lk ag n th s).2.1 j == t) = true := beq_iff_eq.mpr c_123; simp only [koF, bitsI, c2, if_true] at ih; exact ih _ _ _ _ _ _) | (have c2 : ((evR kN (upd ow j (nI k)) lk ag n th s).2.1 j == t) = false := beq_eq_false_iff_ne.mpr c_123; simp only [koF, bitsI, c2, Bool.false_eq_true, if_false, or0] at ih; exact ih _ _ _ _ _ _)
    · refine r_iload dX5_kinds_126 rfl ?_
      refine r_iconst 1 dX5_kinds_128 (by decide) ?_
      refine r_iload dX5_kinds_129 rfl ?_
      refine r_ishl dX5_kinds_131 ?_
      refine r_ior dX5_kinds_132 ?_
      refine r_istore dX5_kinds_133 (Nat.le_of_ble_eq_true rfl) ?_
      refine r_iincV dX5_kinds_135 rfl (Nat.le_of_ble_eq_true rfl) (incN _) ?_
      refine r_goto 70 dX5_kinds_138 (by decide) ?_
      first | (have c2 : ((evR kN (upd ow j (nI k)) lk ag n th s).2.1 j == t) = true := beq_iff_eq.mpr c_123; simp only [koF, bitsI, c2, if_true] at ih; exact ih _ _ _ _ _ _) | (have c2 : ((evR kN (upd ow j (nI k)) lk ag n th s).2.1 j == t) = false := beq_eq_false_iff_ne.mpr c_123; simp only [koF, bitsI, c2, Bool.false_eq_true, if_false, or0] at ih; exact ih _ _ _ _ _ _)
theorem pX5_oldest {l : Int32} (hn : n ≤ 8) (hk : ∀ j, j < n → kd j = nI (kN j) ∧ kN j < 6) (ho : ∀ j, j < n → ow j ≠ -1) (hbad : inB l 0 (nI n - 1) = false → Q (some (.int (-2))) ((mC th kd ow ag lk co sh hs tp hd rl ro (upd rf 2 (rf 2 + 1)) ol ah tr od tk fo wi ou ge mo (nI n) ev se td fr to tn va im lo), r)) (hok : ∀ j, j < n → l = nI j → ∀ (tr tk fo od : Nat → Int32) (lo : Int32), Q (some (.int (olF kN ow lk ag n th j))) ((mC th kd ow ag lk co sh hs tp hd rl ro rf ol ah tr od tk fo wi ou ge mo (nI n) ev se td fr to tn va im lo), r)) : AMet mX5_oldest 7 0 0 [.ref 0, .int l] ((mC th kd ow ag lk co sh hs tp hd rl ro rf ol ah tr od tk fo wi ou ge mo (nI n) ev se td fr to tn va im lo), r) Q := by
  refine AMet.ofRch rfl rfl (Nat.le_of_ble_eq_true rfl) ?_
  have hgo : ∀ j, j < n → l = nI j → Rch (mX5_oldest, 7, 0, 0, oQ Q) 0 0 15 [some (.ref 0), some (.int l), none, none, none] [] ((mC th kd ow ag lk co sh hs tp hd rl ro rf ol ah tr od tk fo wi ou ge mo (nI n) ev se td fr to tn va im lo), r) := by
    intro j hj e
    subst e
    refine r_aload_n dX5_oldest_15 rfl ?_
    refine r_get bX5 4 (by decide) q1527 dX5_oldest_16 rfl rfl ?_
    refine r_iload_n dX5_oldest_19 rfl ?_
    refine r_ialdN dX5_oldest_20 rfl (by omega) (Nat.le_of_ble_eq_true rfl) ?_
    refine r_istore_n dX5_oldest_21 (Nat.le_of_ble_eq_true rfl) ?_
    refine r_iconst (-1) dX5_oldest_22 (by decide) ?_
    refine r_istore_n dX5_oldest_23 (Nat.le_of_ble_eq_true rfl) ?_
    refine r_iconst 0 dX5_oldest_24 (by decide) ?_
    refine r_istore dX5_oldest_25 (Nat.le_of_ble_eq_true rfl) ?_
    refine eqP (P := fun z => Rch (mX5_oldest, 7, 0, 0, oQ Q) 0 0 27 [some (.ref 0), some (.int (nI j)), some (.int (ag j)), some (.int (-1)), some (.int (nI 0))] [] ((mC th kd ow (z) lk co sh hs tp hd rl ro rf ol ah tr od tk fo wi ou ge mo (nI n) ev se td fr to tn va im lo), r)) (upd_id ag j) ?_
    refine loopUp (N := 100) (P := fun k => ∀ (x : Int32) (tr tk fo od : Nat → Int32) (lo : Int32), Rch (mX5_oldest, 7, 0, 0, oQ Q) 0 0 27 [some (.ref 0), some (.int (nI j)), some (.int (ag j)), some (.int (lstI (fun g => glF kN ow lk (upd ag j (nI g)) n th j (allS n)) k)), some (.int (nI k))] [] ((mC th kd ow (upd ag j x) lk co sh hs tp hd rl ro rf ol ah tr od tk fo wi ou ge mo (nI n) ev se td fr to tn va im lo), r)) ?_ ?_ _ _ _ _ _ _
    · intro x tr tk fo od lo
      refine r_iload dX5_oldest_27 rfl ?_
      refine r_bipush 100 dX5_oldest_29 (by decide) ?_
      refine r_icmp_ge 71 dX5_oldest_31 (by decide) (fun _ => ?_) (fun c_ => absurd (geT 100) c_)
      refine r_aload_n dX5_oldest_71 rfl ?_
      refine r_get bX5 4 (by decide) q1527 dX5_oldest_72 rfl rfl ?_
      refine r_iload_n dX5_oldest_75 rfl ?_
      refine r_iload_n dX5_oldest_76 rfl ?_
      refine r_iastN dX5_oldest_77 rfl (by omega) (Nat.le_of_ble_eq_true rfl) ?_
      refine r_iload_n dX5_oldest_78 rfl ?_
      exact r_iret dX5_oldest_79 rfl (Nat.le_of_ble_eq_true rfl) (Nat.le_of_ble_eq_true rfl) (by simp only [upd_upd, upd_id]; exact hok j hj rfl _ _ _ _ _)
    · intro k hk2 ih x tr tk fo od lo
      refine r_iload dX5_oldest_27 rfl ?_
      refine r_bipush 100 dX5_oldest_29 (by decide) ?_
      refine r_icmp_ge 71 dX5_oldest_31 (by decide) (fun c_ => absurd c_ (geF hk2 (by decide))) (fun _ => ?_)
      refine r_aload_n dX5_oldest_34 rfl ?_
      refine r_get bX5 4 (by decide) q1527 dX5_oldest_35 rfl rfl ?_
      refine r_iload_n dX5_oldest_38 rfl ?_
      refine r_iload dX5_oldest_39 rfl ?_
      refine r_iastN dX5_oldest_41 rfl (by omega) (Nat.le_of_ble_eq_true rfl) ?_
      rw [upd_upd]
      refine r_aload_n dX5_oldest_42 rfl ?_
      refine r_iconst 1 dX5_oldest_43 (by decide) ?_
      refine r_aload_n dX5_oldest_44 rfl ?_
      refine r_get bX5 1 (by decide) q1524 dX5_oldest_45 rfl rfl ?_
      refine r_ishl dX5_oldest_48 ?_
      refine r_iconst 1 dX5_oldest_49 (by decide) ?_
      refine r_isub dX5_oldest_50 ?_
      rw [shl1m hn]
      refine r_callV (as := [_]) okX5_runs bX5 rfl rfl q1679 dX5_oldest_51 (Nat.le_of_ble_eq_true rfl) rfl (Nat.le_of_ble_eq_true rfl) (Nat.le_of_ble_eq_true rfl) (Nat.le_of_ble_eq_true rfl) (pX5_runs hn hk ho (fun od2 hod => ?_))
      refine r_aload_n dX5_oldest_54 rfl ?_
      refine r_iload_n dX5_oldest_55 rfl ?_
      refine r_callV (as := [_]) okX5_isGlad bX5 rfl rfl q1844 dX5_oldest_56 (Nat.le_of_ble_eq_true rfl) rfl (Nat.le_of_ble_eq_true rfl) (Nat.le_of_ble_eq_true rfl) (Nat.le_of_ble_eq_true rfl) (pX5_isGlad (by omega) ?_)
      refine r_if_eq 65 dX5_oldest_59 (by decide) (fun c_59 => ?_) (fun c_59 => ?_)
      · refine r_iincV dX5_oldest_65 rfl (Nat.le_of_ble_eq_true rfl) (incN _) ?_
        refine r_goto 27 dX5_oldest_68 (by decide) ?_
        first | (have q3 : glF kN ow lk (upd ag j (nI k)) n th j (allS n) = true := b2i_n.mp c_59; simp only [lstI, q3, if_true] at ih; exact ih _ _ _ _ _ _) | (have q3 : glF kN ow lk (upd ag j (nI k)) n th j (allS n) = false := b2i_0.mp c_59; simp only [lstI, q3, Bool.false_eq_true, if_false] at ih; exact ih _ _ _ _ _ _)
      · refine r_iload dX5_oldest_62 rfl ?_
        refine r_istore_n dX5_oldest_64 (Nat.le_of_ble_eq_true rfl) ?_
        refine r_iincV dX5_oldest_65 rfl (Nat.le_of_ble_eq_true rfl) (incN _) ?_
        refine r_goto 27 dX5_oldest_68 (by decide) ?_
        first | (have q3 : glF kN ow lk (upd ag j (nI k)) n th j (allS n) = true := b2i_n.mp c_59; simp only [lstI, q3, if_true] at ih; exact ih _ _ _ _ _ _) | (have q3 : glF kN ow lk (upd ag j (nI k)) n th j (allS n) = false := b2i_0.mp c_59; simp only [lstI, q3, Bool.false_eq_true, if_false] at ih; exact ih _ _ _ _ _ _)
  refine r_aload_n dX5_oldest_0 rfl ?_
  refine r_iload_n dX5_oldest_1 rfl ?_
  refine r_callV (as := [_]) okX5_isLooker bX5 rfl rfl q1668 dX5_oldest_2 (Nat.le_of_ble_eq_true rfl) rfl (Nat.le_of_ble_eq_true rfl) (Nat.le_of_ble_eq_true rfl) (Nat.le_of_ble_eq_true rfl) (pX5_isLooker ?_)
  refine r_if_ne 15 dX5_oldest_5 (by decide) (fun c_5 => ?_) (fun c_5 => ?_)
  · obtain ⟨j, hj, e⟩ := inB_m (b2i_n.mp c_5) (by omega)
    exact hgo j hj e
  · refine r_aload_n dX5_oldest_8 rfl ?_
    refine r_bipush (-2) dX5_oldest_9 (by decide) ?_
    refine r_callV (as := [_]) okX5_no bX5 rfl rfl q1633 dX5_oldest_11 (Nat.le_of_ble_eq_true rfl) rfl (Nat.le_of_ble_eq_true rfl) (Nat.le_of_ble_eq_true rfl) (Nat.le_of_ble_eq_true rfl) (pX5_no 2 (by decide) (by decide) ?_)
    exact r_iret dX5_oldest_14 rfl (Nat.le_of_ble_eq_true rfl) (Nat.le_of_ble_eq_true rfl) (hbad (b2i_0.mp c_5))
theorem pX5_unlike {s : Int32} (hn : n ≤ 8) (hk : ∀ j, j < n → kd j = nI (kN j) ∧ kN j < 6) (ho : ∀ j, j < n → ow j ≠ -1) (hbad : inB s 0 (allS n) = false → Q (some (.int (-2))) ((mC th kd ow ag lk co sh hs tp hd rl ro (upd rf 2 (rf 2 + 1)) ol ah tr od tk fo wi ou ge mo (nI n) ev se td fr to tn va im lo), r)) (hok : inB s 0 (allS n) = true → ∀ (tr tk fo od : Nat → Int32) (lo : Int32), Q (some (.int (nI (cntI (fun z => decide (0 < cnF (evR kN ow lk ag n th s).1 (nI z))) 8)))) ((mC th kd ow ag lk co sh hs tp hd rl ro rf ol ah tr od tk fo wi ou ge mo (nI n) ev se td fr to tn va im lo), r)) : AMet mX5_unlike 6 0 0 [.ref 0, .int s] ((mC th kd ow ag lk co sh hs tp hd rl ro rf ol ah tr od tk fo wi ou ge mo (nI n) ev se td fr to tn va im lo), r) Q := by
  refine AMet.ofRch rfl rfl (Nat.le_of_ble_eq_true rfl) ?_
  refine r_aload_n dX5_unlike_0 rfl ?_
  refine r_iload_n dX5_unlike_1 rfl ?_
  refine r_callV (as := [_]) okX5_isSet bX5 rfl rfl q1824 dX5_unlike_2 (Nat.le_of_ble_eq_true rfl) rfl (Nat.le_of_ble_eq_true rfl) (Nat.le_of_ble_eq_true rfl) (Nat.le_of_ble_eq_true rfl) (pX5_isSetN hn ?_)
  refine r_if_ne 15 dX5_unlike_5 (by decide) (fun c_5 => ?_) (fun c_5 => ?_)
  · refine r_aload_n dX5_unlike_15 rfl ?_
    refine r_iload_n dX5_unlike_16 rfl ?_
    refine r_callV (as := [_]) okX5_runs bX5 rfl rfl q1679 dX5_unlike_17 (Nat.le_of_ble_eq_true rfl) rfl (Nat.le_of_ble_eq_true rfl) (Nat.le_of_ble_eq_true rfl) (Nat.le_of_ble_eq_true rfl) (pX5_runs hn hk ho (fun od2 hod => ?_))
    refine r_iconst 0 dX5_unlike_20 (by decide) ?_
    refine r_istore_n dX5_unlike_21 (Nat.le_of_ble_eq_true rfl) ?_
    refine r_iconst 0 dX5_unlike_22 (by decide) ?_
    refine r_istore_n dX5_unlike_23 (Nat.le_of_ble_eq_true rfl) ?_
    refine loopUp (N := 8) (P := fun k => Rch (mX5_unlike, 6, 0, 0, oQ Q) 0 0 24 [some (.ref 0), some (.int s), some (.int (nI (cntI (fun z => decide (0 < cnF (evR kN ow lk ag n th s).1 (nI z))) k))), some (.int (nI k))] [] ((mC th kd ow ag lk co sh hs tp hd rl ro rf ol ah ((evR kN ow lk ag n th s).1) (od2) ((evR kN ow lk ag n th s).2.1) ((evR kN ow lk ag n th s).2.2) wi ou ge mo (nI n) ev se td fr to tn va im (nI (ordL ag s n).length)), r)) ?_ ?_
    · refine r_iload_n dX5_unlike_24 rfl ?_
      refine r_bipush 8 dX5_unlike_25 (by decide) ?_
      refine r_icmp_ge 47 dX5_unlike_27 (by decide) (fun _ => ?_) (fun c_ => absurd (geT 8) c_)
      refine r_iload_n dX5_unlike_47 rfl ?_
      exact r_iret dX5_unlike_48 rfl (Nat.le_of_ble_eq_true rfl) (Nat.le_of_ble_eq_true rfl) (hok (b2i_n.mp c_5) _ _ _ _ _)
    · intro k hk2 ih
      refine r_iload_n dX5_unlike_24 rfl ?_
      refine r_bipush 8 dX5_unlike_25 (by decide) ?_
      refine r_icmp_ge 47 dX5_unlike_27 (by decide) (fun c_ => absurd c_ (geF hk2 (by decide))) (fun _ => ?_)
      refine r_aload_n dX5_unlike_30 rfl ?_
      refine r_iload_n dX5_unlike_31 rfl ?_
      refine r_callV (as := [_]) okX5_manyOf bX5 rfl rfl q1718 dX5_unlike_32 (Nat.le_of_ble_eq_true rfl) rfl (Nat.le_of_ble_eq_true rfl) (Nat.le_of_ble_eq_true rfl) (Nat.le_of_ble_eq_true rfl) (pX5_manyOf ?_)
      refine r_if_le 41 dX5_unlike_35 (by decide) (fun c_35 => ?_) (fun c_35 => ?_)
      · refine r_iincV dX5_unlike_41 rfl (Nat.le_of_ble_eq_true rfl) (incN _) ?_
        refine r_goto 24 dX5_unlike_44 (by decide) ?_
        first | (have q1 : ¬ 0 < cnF (evR kN ow lk ag n th s).1 (nI k) := Int32.not_lt.mpr c_35; simp only [cntI, q1, decide_false, Bool.false_eq_true, if_false, Nat.add_zero] at ih; exact ih) | (have q1 : 0 < cnF (evR kN ow lk ag n th s).1 (nI k) := Int32.not_le.mp c_35; simp only [cntI, q1, decide_true, if_true] at ih; exact ih)
      · refine r_iincV dX5_unlike_38 rfl (Nat.le_of_ble_eq_true rfl) (incN _) ?_
        refine r_iincV dX5_unlike_41 rfl (Nat.le_of_ble_eq_true rfl) (incN _) ?_
        refine r_goto 24 dX5_unlike_44 (by decide) ?_
        first | (have q1 : ¬ 0 < cnF (evR kN ow lk ag n th s).1 (nI k) := Int32.not_lt.mpr c_35; simp only [cntI, q1, decide_false, Bool.false_eq_true, if_false, Nat.add_zero] at ih; exact ih) | (have q1 : 0 < cnF (evR kN ow lk ag n th s).1 (nI k) := Int32.not_le.mp c_35; simp only [cntI, q1, decide_true, if_true] at ih; exact ih)
  · refine r_aload_n dX5_unlike_8 rfl ?_
    refine r_bipush (-2) dX5_unlike_9 (by decide) ?_
    refine r_callV (as := [_]) okX5_no bX5 rfl rfl q1633 dX5_unlike_11 (Nat.le_of_ble_eq_true rfl) rfl (Nat.le_of_ble_eq_true rfl) (Nat.le_of_ble_eq_true rfl) (Nat.le_of_ble_eq_true rfl) (pX5_no 2 (by decide) (by decide) ?_)
    exact r_iret dX5_unlike_14 rfl (Nat.le_of_ble_eq_true rfl) (Nat.le_of_ble_eq_true rfl) (hbad (b2i_0.mp c_5))
theorem pX5_waysOf {s b : Int32} (hn : n ≤ 8) (hQ : Q (some (.long (waF co s (fun l => nI l == b) n))) ((mC th kd ow ag lk co sh hs tp hd rl ro rf ol ah tr od tk fo wi ou ge mo (nI n) ev se td fr to tn va im lo), r)) : AMet mX5_waysOf 2 0 0 [.ref 0, .int s, .int b] ((mC th kd ow ag lk co sh hs tp hd rl ro rf ol ah tr od tk fo wi ou ge mo (nI n) ev se td fr to tn va im lo), r) Q := by
  refine AMet.ofRch rfl rfl (Nat.le_of_ble_eq_true rfl) ?_
  refine r_lconst 1 dX5_waysOf_0 (by decide) ?_
  refine r_lstore_n dX5_waysOf_1 (Nat.le_of_ble_eq_true rfl) ?_
  refine r_iconst 0 dX5_waysOf_2 (by decide) ?_
  refine r_istore dX5_waysOf_3 (Nat.le_of_ble_eq_true rfl) ?_
  refine loopUp (N := n) (P := fun k => Rch (mX5_waysOf, 2, 0, 0, oQ Q) 0 0 5 [some (.ref 0), some (.int s), some (.int b), some (.long (waF co s (fun l => nI l == b) k)), none, some (.int (nI k))] [] ((mC th kd ow ag lk co sh hs tp hd rl ro rf ol ah tr od tk fo wi ou ge mo (nI n) ev se td fr to tn va im lo), r)) ?_ ?_
  · refine r_iload dX5_waysOf_5 rfl ?_
    refine r_aload_n dX5_waysOf_7 rfl ?_
    refine r_get bX5 1 (by decide) q1524 dX5_waysOf_8 rfl rfl ?_
    refine r_icmp_ge 60 dX5_waysOf_11 (by decide) (fun _ => ?_) (fun c_ => absurd (Int32.le_refl _) c_)
    refine r_lload_n dX5_waysOf_60 rfl ?_
    exact r_lret dX5_waysOf_61 rfl (Nat.le_of_ble_eq_true rfl) (Nat.le_of_ble_eq_true rfl) (hQ)
  · intro k hk2 ih
    refine r_iload dX5_waysOf_5 rfl ?_
    refine r_aload_n dX5_waysOf_7 rfl ?_
    refine r_get bX5 1 (by decide) q1524 dX5_waysOf_8 rfl rfl ?_
    refine r_icmp_ge 60 dX5_waysOf_11 (by decide) (fun c_ => absurd c_ (geF hk2 (by omega))) (fun _ => ?_)
    refine r_iload dX5_waysOf_14 rfl ?_
    refine r_iload_n dX5_waysOf_16 rfl ?_
    refine r_icmp_eq 54 dX5_waysOf_17 (by decide) (fun c_17 => ?_) (fun c_17 => ?_)
    · refine r_iincV dX5_waysOf_54 rfl (Nat.le_of_ble_eq_true rfl) (incN _) ?_
      refine r_goto 5 dX5_waysOf_57 (by decide) ?_
      first | (have q1 : (nI k == b) = true := beq_iff_eq.mpr c_17; simp only [waF, q1, if_true] at ih; exact ih) | (have q1 : (nI k == b) = false := beq_eq_false_iff_ne.mpr c_17; have q2 := b2i_0.mp c_27; simp only [waF, q1, q2, Bool.false_eq_true, if_false] at ih; exact ih) | (have q1 : (nI k == b) = false := beq_eq_false_iff_ne.mpr c_17; have q2 := b2i_n.mp c_27; simp only [waF, q1, q2, Bool.false_eq_true, if_false, if_true] at ih; exact ih)
    · refine r_lload_n dX5_waysOf_20 rfl ?_
      refine r_iload_n dX5_waysOf_21 rfl ?_
      refine r_iload dX5_waysOf_22 rfl ?_
      refine r_callS (as := [_, _]) okX5_in q1691 dX5_waysOf_24 (Nat.le_of_ble_eq_true rfl) rfl (Nat.le_of_ble_eq_true rfl) (Nat.le_of_ble_eq_true rfl) (Nat.le_of_ble_eq_true rfl) (pX5_in ?_)
      refine r_if_eq 41 dX5_waysOf_27 (by decide) (fun c_27 => ?_) (fun c_27 => ?_)
      · refine r_bipush 12 dX5_waysOf_41 (by decide) ?_
        refine r_aload_n dX5_waysOf_43 rfl ?_
        refine r_get bX5 6 (by decide) q1529 dX5_waysOf_44 rfl rfl ?_
        refine r_iload dX5_waysOf_47 rfl ?_
        refine r_ialdN dX5_waysOf_49 rfl (by omega) (Nat.le_of_ble_eq_true rfl) ?_
        refine r_isub dX5_waysOf_50 ?_
        refine r_i2l dX5_waysOf_51 ?_
        refine r_lmul dX5_waysOf_52 ?_
        refine r_lstore_n dX5_waysOf_53 (Nat.le_of_ble_eq_true rfl) ?_
        refine r_iincV dX5_waysOf_54 rfl (Nat.le_of_ble_eq_true rfl) (incN _) ?_
        refine r_goto 5 dX5_waysOf_57 (by decide) ?_
        first | (have q1 : (nI k == b) = true := beq_iff_eq.mpr c_17; simp only [waF, q1, if_true] at ih; exact ih) | (have q1 : (nI k == b) = false := beq_eq_false_iff_ne.mpr c_17; have q2 := b2i_0.mp c_27; simp only [waF, q1, q2, Bool.false_eq_true, if_false] at ih; exact ih) | (have q1 : (nI k == b) = false := beq_eq_false_iff_ne.mpr c_17; have q2 := b2i_n.mp c_27; simp only [waF, q1, q2, Bool.false_eq_true, if_false, if_true] at ih; exact ih)
      · refine r_aload_n dX5_waysOf_30 rfl ?_
        refine r_get bX5 6 (by decide) q1529 dX5_waysOf_31 rfl rfl ?_
        refine r_iload dX5_waysOf_34 rfl ?_
        refine r_ialdN dX5_waysOf_36 rfl (by omega) (Nat.le_of_ble_eq_true rfl) ?_
        refine r_i2l dX5_waysOf_37 ?_
        refine r_goto 52 dX5_waysOf_38 (by decide) ?_
        refine r_lmul dX5_waysOf_52 ?_
        refine r_lstore_n dX5_waysOf_53 (Nat.le_of_ble_eq_true rfl) ?_
        refine r_iincV dX5_waysOf_54 rfl (Nat.le_of_ble_eq_true rfl) (incN _) ?_
        refine r_goto 5 dX5_waysOf_57 (by decide) ?_
        first | (have q1 : (nI k == b) = true := beq_iff_eq.mpr c_17; simp only [waF, q1, if_true] at ih; exact ih) | (have q1 : (nI k == b) = false := beq_eq_false_iff_ne.mpr c_17; have q2 := b2i_0.mp c_27; simp only [waF, q1, q2, Bool.false_eq_true, if_false] at ih; exact ih) | (have q1 : (nI k == b) = false := beq_eq_false_iff_ne.mpr c_17; have q2 := b2i_n.mp c_27; simp only [waF, q1, q2, Bool.false_eq_true, if_false, if_true] at ih; exact ih)
theorem pX5_allWays {b : Int32} (hn : n ≤ 8) (hQ : Q (some (.long (alF (fun l => nI l == b) n))) ((mC th kd ow ag lk co sh hs tp hd rl ro rf ol ah tr od tk fo wi ou ge mo (nI n) ev se td fr to tn va im lo), r)) : AMet mX5_allWays 2 0 0 [.ref 0, .int b] ((mC th kd ow ag lk co sh hs tp hd rl ro rf ol ah tr od tk fo wi ou ge mo (nI n) ev se td fr to tn va im lo), r) Q := by
  refine AMet.ofRch rfl rfl (Nat.le_of_ble_eq_true rfl) ?_
  refine r_lconst 1 dX5_allWays_0 (by decide) ?_
  refine r_lstore_n dX5_allWays_1 (Nat.le_of_ble_eq_true rfl) ?_
  refine r_iconst 0 dX5_allWays_2 (by decide) ?_
  refine r_istore dX5_allWays_3 (Nat.le_of_ble_eq_true rfl) ?_
  refine loopUp (N := n) (P := fun k => Rch (mX5_allWays, 2, 0, 0, oQ Q) 0 0 5 [some (.ref 0), some (.int b), some (.long (alF (fun l => nI l == b) k)), none, some (.int (nI k))] [] ((mC th kd ow ag lk co sh hs tp hd rl ro rf ol ah tr od tk fo wi ou ge mo (nI n) ev se td fr to tn va im lo), r)) ?_ ?_
  · refine r_iload dX5_allWays_5 rfl ?_
    refine r_aload_n dX5_allWays_7 rfl ?_
    refine r_get bX5 1 (by decide) q1524 dX5_allWays_8 rfl rfl ?_
    refine r_icmp_ge 32 dX5_allWays_11 (by decide) (fun _ => ?_) (fun c_ => absurd (Int32.le_refl _) c_)
    refine r_lload_n dX5_allWays_32 rfl ?_
    exact r_lret dX5_allWays_33 rfl (Nat.le_of_ble_eq_true rfl) (Nat.le_of_ble_eq_true rfl) (hQ)
  · intro k hk2 ih
    refine r_iload dX5_allWays_5 rfl ?_
    refine r_aload_n dX5_allWays_7 rfl ?_
    refine r_get bX5 1 (by decide) q1524 dX5_allWays_8 rfl rfl ?_
    refine r_icmp_ge 32 dX5_allWays_11 (by decide) (fun c_ => absurd c_ (geF hk2 (by omega))) (fun _ => ?_)
    refine r_iload dX5_allWays_14 rfl ?_
    refine r_iload_n dX5_allWays_16 rfl ?_
    refine r_icmp_eq 26 dX5_allWays_17 (by decide) (fun c_17 => ?_) (fun c_17 => ?_)
    · refine r_iincV dX5_allWays_26 rfl (Nat.le_of_ble_eq_true rfl) (incN _) ?_
      refine r_goto 5 dX5_allWays_29 (by decide) ?_
      first | (have q1 : (nI k == b) = true := beq_iff_eq.mpr c_17; simp only [alF, q1, if_true] at ih; exact ih) | (have q1 : (nI k == b) = false := beq_eq_false_iff_ne.mpr c_17; simp only [alF, q1, Bool.false_eq_true, if_false] at ih; exact ih)
    · refine r_lload_n dX5_allWays_20 rfl ?_
      refine r_ldc2 q1893 dX5_allWays_21 ?_
      refine r_lmul dX5_allWays_24 ?_
      refine r_lstore_n dX5_allWays_25 (Nat.le_of_ble_eq_true rfl) ?_
      refine r_iincV dX5_allWays_26 rfl (Nat.le_of_ble_eq_true rfl) (incN _) ?_
      refine r_goto 5 dX5_allWays_29 (by decide) ?_
      first | (have q1 : (nI k == b) = true := beq_iff_eq.mpr c_17; simp only [alF, q1, if_true] at ih; exact ih) | (have q1 : (nI k == b) = false := beq_eq_false_iff_ne.mpr c_17; simp only [alF, q1, Bool.false_eq_true, if_false] at ih; exact ih)
end MM
