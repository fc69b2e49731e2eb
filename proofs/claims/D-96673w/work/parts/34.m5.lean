set_option maxRecDepth 100000
/-! the reference: says, lookers -/
def undB (kind k : Int32) : Bool := k == 0 || (kind == k || ((kind == 3 && k == 1) || (kind == 4 && k == 2)))
def zrI (f : Nat → Int32) (b k : Nat) : Nat → Int32 := fun i => if b ≤ i ∧ i < b + k then 0 else f i
theorem zrI_0 (f : Nat → Int32) (b : Nat) : zrI f b 0 = f := by
  funext i
  simp only [zrI]
  rw [if_neg (by omega)]
theorem zrI_up (f : Nat → Int32) (b k : Nat) : upd (zrI f b k) (b + k) 0 = zrI f b (k + 1) := by
  funext i
  by_cases h : i = b + k
  · rw [h, pk_us]
    simp [zrI]
  · rw [pk_un h]
    simp only [zrI]
    by_cases h2 : b ≤ i ∧ i < b + k
    · rw [if_pos h2, if_pos (by omega)]
    · rw [if_neg h2, if_neg (by omega)]
theorem and1 (x : Int32) : (x &&& 1) = b2i ((x &&& 1) == 1) := by
  have h := pk_and x (m := 1) 1 (by decide)
  rcases Nat.mod_two_eq_zero_or_one x.toBitVec.toNat with e | e
  · rw [h]
    simp only [show (2 : Nat) ^ 1 = 2 from rfl, e]
    decide
  · rw [h]
    simp only [show (2 : Nat) ^ 1 = 2 from rfl, e]
    decide
def tellB (w v : Int32) : Bool := (w == 0 && inB v 0 12) || ((w == 1 && inB v 0 99) || (w == 2 && inB v (-1) 7))
section MM
variable {th kd ow ag lk co sh hs tp hd rl : Nat → Int32} {ro : Nat → Int64} {rf ol ah tr od tk fo wi ou ge mo : Nat → Int32} {my ev se td fr to tn va im lo : Int32} {r : List AC × List AC × List AC} {Q : Option Value → AHp → Prop}
theorem pX5_isUnder {h : AHp} {a b : Int32} (hQ : Q (some (.int (b2i (undB a b)))) h) : AMet mX5_isUnder 1 0 0 [.int a, .int b] h Q := by
  refine AMet.ofRch rfl rfl (Nat.le_of_ble_eq_true rfl) ?_
  refine r_iload_n dX5_isUnder_0 rfl ?_
  refine r_if_eq 29 dX5_isUnder_1 (by decide) (fun c_1 => ?_) (fun c_1 => ?_)
  · refine r_iconst 1 dX5_isUnder_29 (by decide) ?_
    refine r_goto 34 dX5_isUnder_30 (by decide) ?_
    exact r_zret (ty := .boolean) dX5_isUnder_34 rfl (rfl) (Nat.le_of_ble_eq_true rfl) (Nat.le_of_ble_eq_true rfl) (qi (by simp_all [b2i, undB]) hQ)
  · refine r_iload_n dX5_isUnder_4 rfl ?_
    refine r_iload_n dX5_isUnder_5 rfl ?_
    refine r_icmp_eq 29 dX5_isUnder_6 (by decide) (fun c_6 => ?_) (fun c_6 => ?_)
    · refine r_iconst 1 dX5_isUnder_29 (by decide) ?_
      refine r_goto 34 dX5_isUnder_30 (by decide) ?_
      exact r_zret (ty := .boolean) dX5_isUnder_34 rfl (rfl) (Nat.le_of_ble_eq_true rfl) (Nat.le_of_ble_eq_true rfl) (qi (by simp_all [b2i, undB]) hQ)
    · refine r_iload_n dX5_isUnder_9 rfl ?_
      refine r_iconst 3 dX5_isUnder_10 (by decide) ?_
      refine r_icmp_ne 19 dX5_isUnder_11 (by decide) (fun c_11 => ?_) (fun c_11 => ?_)
      · refine r_iload_n dX5_isUnder_19 rfl ?_
        refine r_iconst 4 dX5_isUnder_20 (by decide) ?_
        refine r_icmp_ne 33 dX5_isUnder_21 (by decide) (fun c_21 => ?_) (fun c_21 => ?_)
        · refine r_iconst 0 dX5_isUnder_33 (by decide) ?_
          exact r_zret (ty := .boolean) dX5_isUnder_34 rfl (rfl) (Nat.le_of_ble_eq_true rfl) (Nat.le_of_ble_eq_true rfl) (qi (by simp_all [b2i, undB]) hQ)
        · refine r_iload_n dX5_isUnder_24 rfl ?_
          refine r_iconst 2 dX5_isUnder_25 (by decide) ?_
          refine r_icmp_ne 33 dX5_isUnder_26 (by decide) (fun c_26 => ?_) (fun c_26 => ?_)
          · refine r_iconst 0 dX5_isUnder_33 (by decide) ?_
            exact r_zret (ty := .boolean) dX5_isUnder_34 rfl (rfl) (Nat.le_of_ble_eq_true rfl) (Nat.le_of_ble_eq_true rfl) (qi (by simp_all [b2i, undB]) hQ)
          · refine r_iconst 1 dX5_isUnder_29 (by decide) ?_
            refine r_goto 34 dX5_isUnder_30 (by decide) ?_
            exact r_zret (ty := .boolean) dX5_isUnder_34 rfl (rfl) (Nat.le_of_ble_eq_true rfl) (Nat.le_of_ble_eq_true rfl) (qi (by simp_all [b2i, undB]) hQ)
      · refine r_iload_n dX5_isUnder_14 rfl ?_
        refine r_iconst 1 dX5_isUnder_15 (by decide) ?_
        refine r_icmp_eq 29 dX5_isUnder_16 (by decide) (fun c_16 => ?_) (fun c_16 => ?_)
        · refine r_iconst 1 dX5_isUnder_29 (by decide) ?_
          refine r_goto 34 dX5_isUnder_30 (by decide) ?_
          exact r_zret (ty := .boolean) dX5_isUnder_34 rfl (rfl) (Nat.le_of_ble_eq_true rfl) (Nat.le_of_ble_eq_true rfl) (qi (by simp_all [b2i, undB]) hQ)
        · refine r_iload_n dX5_isUnder_19 rfl ?_
          refine r_iconst 4 dX5_isUnder_20 (by decide) ?_
          refine r_icmp_ne 33 dX5_isUnder_21 (by decide) (fun c_21 => ?_) (fun c_21 => ?_)
          · refine r_iconst 0 dX5_isUnder_33 (by decide) ?_
            exact r_zret (ty := .boolean) dX5_isUnder_34 rfl (rfl) (Nat.le_of_ble_eq_true rfl) (Nat.le_of_ble_eq_true rfl) (qi (by simp_all [b2i, undB]) hQ)
          · refine r_iload_n dX5_isUnder_24 rfl ?_
            refine r_iconst 2 dX5_isUnder_25 (by decide) ?_
            refine r_icmp_ne 33 dX5_isUnder_26 (by decide) (fun c_26 => ?_) (fun c_26 => ?_)
            · refine r_iconst 0 dX5_isUnder_33 (by decide) ?_
              exact r_zret (ty := .boolean) dX5_isUnder_34 rfl (rfl) (Nat.le_of_ble_eq_true rfl) (Nat.le_of_ble_eq_true rfl) (qi (by simp_all [b2i, undB]) hQ)
            · refine r_iconst 1 dX5_isUnder_29 (by decide) ?_
              refine r_goto 34 dX5_isUnder_30 (by decide) ?_
              exact r_zret (ty := .boolean) dX5_isUnder_34 rfl (rfl) (Nat.le_of_ble_eq_true rfl) (Nat.le_of_ble_eq_true rfl) (qi (by simp_all [b2i, undB]) hQ)
theorem pX5_says_bad {s k : Int32} (hb : (inB s 0 7 && inB k 0 5) = false) (hQ : Q (some (.int (-2))) ((mC th kd ow ag lk co sh hs tp hd rl ro (upd rf 2 (rf 2 + 1)) ol ah tr od tk fo wi ou ge mo my ev se td fr to tn va im lo), r)) : AMet mX5_says 6 0 0 [.ref 0, .int s, .int k] ((mC th kd ow ag lk co sh hs tp hd rl ro rf ol ah tr od tk fo wi ou ge mo my ev se td fr to tn va im lo), r) Q := by
  refine AMet.ofRch rfl rfl (Nat.le_of_ble_eq_true rfl) ?_
  refine r_iload_n dX5_says_0 rfl ?_
  refine r_callS (as := [_]) okX5_isShelf q1627 dX5_says_1 (Nat.le_of_ble_eq_true rfl) rfl (Nat.le_of_ble_eq_true rfl) (Nat.le_of_ble_eq_true rfl) (Nat.le_of_ble_eq_true rfl) (pX5_isShelf ?_)
  refine r_if_eq 16 dX5_says_4 (by decide) (fun c_4 => ?_) (fun c_4 => ?_)
  · refine r_aload_n dX5_says_16 rfl ?_
    refine r_bipush (-2) dX5_says_17 (by decide) ?_
    refine r_callV (as := [_]) okX5_no bX5 rfl rfl q1633 dX5_says_19 (Nat.le_of_ble_eq_true rfl) rfl (Nat.le_of_ble_eq_true rfl) (Nat.le_of_ble_eq_true rfl) (Nat.le_of_ble_eq_true rfl) (pX5_no 2 (by decide) (by decide) ?_)
    exact r_iret dX5_says_22 rfl (Nat.le_of_ble_eq_true rfl) (Nat.le_of_ble_eq_true rfl) (hQ)
  · refine r_iload_n dX5_says_7 rfl ?_
    refine r_iconst 0 dX5_says_8 (by decide) ?_
    refine r_iconst 5 dX5_says_9 (by decide) ?_
    refine r_callS (as := [_, _, _]) okX5_within q1630 dX5_says_10 (Nat.le_of_ble_eq_true rfl) rfl (Nat.le_of_ble_eq_true rfl) (Nat.le_of_ble_eq_true rfl) (Nat.le_of_ble_eq_true rfl) (pX5_within ?_)
    refine r_if_ne 23 dX5_says_13 (by decide) (fun c_13 => ?_) (fun c_13 => ?_)
    · exact absurd hb (by simp_all [b2i_0])
    · refine r_aload_n dX5_says_16 rfl ?_
      refine r_bipush (-2) dX5_says_17 (by decide) ?_
      refine r_callV (as := [_]) okX5_no bX5 rfl rfl q1633 dX5_says_19 (Nat.le_of_ble_eq_true rfl) rfl (Nat.le_of_ble_eq_true rfl) (Nat.le_of_ble_eq_true rfl) (Nat.le_of_ble_eq_true rfl) (pX5_no 2 (by decide) (by decide) ?_)
      exact r_iret dX5_says_22 rfl (Nat.le_of_ble_eq_true rfl) (Nat.le_of_ble_eq_true rfl) (hQ)
theorem pX5_says_row {j k : Nat} {kk : Int32} (hj : j < 8) (hk5 : inB kk 0 5 = true) (hk : k < 5) (hh : hd j = nI k) (hQ : Q (some (.int (-3))) ((mC th kd ow ag lk co sh hs tp hd rl ro (upd rf 3 (rf 3 + 1)) ol ah tr od tk fo wi ou ge mo my ev se td fr to tn va im lo), r)) : AMet mX5_says 6 0 0 [.ref 0, .int (nI j), .int kk] ((mC th kd ow ag lk co sh hs tp hd rl ro rf ol ah tr od tk fo wi ou ge mo my ev se td fr to tn va im lo), r) Q := by
  refine AMet.ofRch rfl rfl (Nat.le_of_ble_eq_true rfl) ?_
  refine r_iload_n dX5_says_0 rfl ?_
  refine r_callS (as := [_]) okX5_isShelf q1627 dX5_says_1 (Nat.le_of_ble_eq_true rfl) rfl (Nat.le_of_ble_eq_true rfl) (Nat.le_of_ble_eq_true rfl) (Nat.le_of_ble_eq_true rfl) (pX5_isShelf ?_)
  refine r_if_eq 16 dX5_says_4 (by decide) (fun c_ => absurd c_ (b2i_n.mpr (inB_nI (N := 7) (by omega) (by decide)))) (fun _ => ?_)
  refine r_iload_n dX5_says_7 rfl ?_
  refine r_iconst 0 dX5_says_8 (by decide) ?_
  refine r_iconst 5 dX5_says_9 (by decide) ?_
  refine r_callS (as := [_, _, _]) okX5_within q1630 dX5_says_10 (Nat.le_of_ble_eq_true rfl) rfl (Nat.le_of_ble_eq_true rfl) (Nat.le_of_ble_eq_true rfl) (Nat.le_of_ble_eq_true rfl) (pX5_within ?_)
  refine r_if_ne 23 dX5_says_13 (by decide) (fun _ => ?_) (fun c_ => absurd c_ (b2i_n.mpr hk5))
  refine r_aload_n dX5_says_23 rfl ?_
  refine r_iload_n dX5_says_24 rfl ?_
  refine r_callV (as := [_]) okX5_isRow bX5 rfl rfl q1641 dX5_says_25 (Nat.le_of_ble_eq_true rfl) rfl (Nat.le_of_ble_eq_true rfl) (Nat.le_of_ble_eq_true rfl) (Nat.le_of_ble_eq_true rfl) (pX5_isRow hj ?_)
  refine r_if_eq 38 dX5_says_28 (by decide) (fun c_ => absurd c_ (b2i_n.mpr (by rw [hh]; exact inB_nI (N := 4) (by omega) (by decide)))) (fun _ => ?_)
  refine r_aload_n dX5_says_31 rfl ?_
  refine r_bipush (-3) dX5_says_32 (by decide) ?_
  refine r_callV (as := [_]) okX5_no bX5 rfl rfl q1633 dX5_says_34 (Nat.le_of_ble_eq_true rfl) rfl (Nat.le_of_ble_eq_true rfl) (Nat.le_of_ble_eq_true rfl) (Nat.le_of_ble_eq_true rfl) (pX5_no 3 (by decide) (by decide) ?_)
  exact r_iret dX5_says_37 rfl (Nat.le_of_ble_eq_true rfl) (Nat.le_of_ble_eq_true rfl) (hQ)
theorem pX5_says_none {j : Nat} {kk : Int32} (hj : j < 8) (hk5 : inB kk 0 5 = true) (hh : hd j = -1) (hQ : Q (some (.int (-4))) ((mC th kd ow ag lk co sh hs tp hd rl ro (upd rf 4 (rf 4 + 1)) ol ah tr od tk fo wi ou ge mo my ev se td fr to tn va im lo), r)) : AMet mX5_says 6 0 0 [.ref 0, .int (nI j), .int kk] ((mC th kd ow ag lk co sh hs tp hd rl ro rf ol ah tr od tk fo wi ou ge mo my ev se td fr to tn va im lo), r) Q := by
  refine AMet.ofRch rfl rfl (Nat.le_of_ble_eq_true rfl) ?_
  refine r_iload_n dX5_says_0 rfl ?_
  refine r_callS (as := [_]) okX5_isShelf q1627 dX5_says_1 (Nat.le_of_ble_eq_true rfl) rfl (Nat.le_of_ble_eq_true rfl) (Nat.le_of_ble_eq_true rfl) (Nat.le_of_ble_eq_true rfl) (pX5_isShelf ?_)
  refine r_if_eq 16 dX5_says_4 (by decide) (fun c_ => absurd c_ (b2i_n.mpr (inB_nI (N := 7) (by omega) (by decide)))) (fun _ => ?_)
  refine r_iload_n dX5_says_7 rfl ?_
  refine r_iconst 0 dX5_says_8 (by decide) ?_
  refine r_iconst 5 dX5_says_9 (by decide) ?_
  refine r_callS (as := [_, _, _]) okX5_within q1630 dX5_says_10 (Nat.le_of_ble_eq_true rfl) rfl (Nat.le_of_ble_eq_true rfl) (Nat.le_of_ble_eq_true rfl) (Nat.le_of_ble_eq_true rfl) (pX5_within ?_)
  refine r_if_ne 23 dX5_says_13 (by decide) (fun _ => ?_) (fun c_ => absurd c_ (b2i_n.mpr hk5))
  refine r_aload_n dX5_says_23 rfl ?_
  refine r_iload_n dX5_says_24 rfl ?_
  refine r_callV (as := [_]) okX5_isRow bX5 rfl rfl q1641 dX5_says_25 (Nat.le_of_ble_eq_true rfl) rfl (Nat.le_of_ble_eq_true rfl) (Nat.le_of_ble_eq_true rfl) (Nat.le_of_ble_eq_true rfl) (pX5_isRow hj ?_)
  refine r_if_eq 38 dX5_says_28 (by decide) (fun _ => ?_) (fun c_ => absurd (b2i_0.mpr (by rw [hh]; exact inB_neg)) c_)
  refine r_aload_n dX5_says_38 rfl ?_
  refine r_get bX5 17 (by decide) q1540 dX5_says_39 rfl rfl ?_
  refine r_iload_n dX5_says_42 rfl ?_
  refine r_ialdN dX5_says_43 rfl (by omega) (Nat.le_of_ble_eq_true rfl) ?_
  refine r_if_ge 54 dX5_says_44 (by decide) (fun c_ => absurd c_ (by rw [hh]; decide)) (fun _ => ?_)
  refine r_aload_n dX5_says_47 rfl ?_
  refine r_bipush (-4) dX5_says_48 (by decide) ?_
  refine r_callV (as := [_]) okX5_no bX5 rfl rfl q1633 dX5_says_50 (Nat.le_of_ble_eq_true rfl) rfl (Nat.le_of_ble_eq_true rfl) (Nat.le_of_ble_eq_true rfl) (Nat.le_of_ble_eq_true rfl) (pX5_no 4 (by decide) (by decide) ?_)
  exact r_iret dX5_says_53 rfl (Nat.le_of_ble_eq_true rfl) (Nat.le_of_ble_eq_true rfl) (hQ)
theorem pX5_says_look {j l n : Nat} {kk : Int32} {kN : Nat → Nat} (hj : j < 8) (hk5 : inB kk 0 5 = true) (hl : l < n) (hn : n ≤ 8) (hk : ∀ j, j < n → kd j = nI (kN j) ∧ kN j < 6) (ho : ∀ j, j < n → ow j ≠ -1) (hh : hd j = nI (10 + l)) (hbad : undB (kd l) kk = false → Q (some (.int (-3))) ((mC th kd ow ag lk co sh hs tp hd rl ro (upd rf 3 (rf 3 + 1)) ol ah tr od tk fo wi ou ge mo (nI n) ev se td fr to tn va im lo), r)) (h0 : undB (kd l) kk = true → kk = 0 → Q (some (.int (ag l))) ((mC th kd ow ag lk co sh hs tp hd rl ro rf ol ah tr od tk fo wi ou ge mo (nI n) ev se td fr to tn va im lo), r)) (hok : undB (kd l) kk = true → kk ≠ 0 → ∀ (tr tk fo od : Nat → Int32) (lo : Int32), Q (some (.int ((evR kN ow lk ag n th (1 <<< (nI l &&& 31))).2.1 l))) ((mC th kd ow ag lk co sh hs tp hd rl ro rf ol ah tr od tk fo wi ou ge mo (nI n) ev se td fr to tn va im lo), r)) : AMet mX5_says 6 0 0 [.ref 0, .int (nI j), .int kk] ((mC th kd ow ag lk co sh hs tp hd rl ro rf ol ah tr od tk fo wi ou ge mo (nI n) ev se td fr to tn va im lo), r) Q := by
  refine AMet.ofRch rfl rfl (Nat.le_of_ble_eq_true rfl) ?_
  refine r_iload_n dX5_says_0 rfl ?_
  refine r_callS (as := [_]) okX5_isShelf q1627 dX5_says_1 (Nat.le_of_ble_eq_true rfl) rfl (Nat.le_of_ble_eq_true rfl) (Nat.le_of_ble_eq_true rfl) (Nat.le_of_ble_eq_true rfl) (pX5_isShelf ?_)
  refine r_if_eq 16 dX5_says_4 (by decide) (fun c_ => absurd c_ (b2i_n.mpr (inB_nI (N := 7) (by omega) (by decide)))) (fun _ => ?_)
  refine r_iload_n dX5_says_7 rfl ?_
  refine r_iconst 0 dX5_says_8 (by decide) ?_
  refine r_iconst 5 dX5_says_9 (by decide) ?_
  refine r_callS (as := [_, _, _]) okX5_within q1630 dX5_says_10 (Nat.le_of_ble_eq_true rfl) rfl (Nat.le_of_ble_eq_true rfl) (Nat.le_of_ble_eq_true rfl) (Nat.le_of_ble_eq_true rfl) (pX5_within ?_)
  refine r_if_ne 23 dX5_says_13 (by decide) (fun _ => ?_) (fun c_ => absurd c_ (b2i_n.mpr hk5))
  refine r_aload_n dX5_says_23 rfl ?_
  refine r_iload_n dX5_says_24 rfl ?_
  refine r_callV (as := [_]) okX5_isRow bX5 rfl rfl q1641 dX5_says_25 (Nat.le_of_ble_eq_true rfl) rfl (Nat.le_of_ble_eq_true rfl) (Nat.le_of_ble_eq_true rfl) (Nat.le_of_ble_eq_true rfl) (pX5_isRow hj ?_)
  refine r_if_eq 38 dX5_says_28 (by decide) (fun _ => ?_) (fun c_ => absurd (b2i_0.mpr (by rw [hh]; exact inB_nIf (N := 4) (by omega) (by omega))) c_)
  refine r_aload_n dX5_says_38 rfl ?_
  refine r_get bX5 17 (by decide) q1540 dX5_says_39 rfl rfl ?_
  refine r_iload_n dX5_says_42 rfl ?_
  refine r_ialdN dX5_says_43 rfl (by omega) (Nat.le_of_ble_eq_true rfl) ?_
  refine r_if_ge 54 dX5_says_44 (by decide) (fun _ => ?_) (fun c_ => absurd (by rw [hh]; exact nI_pos' (by omega)) c_)
  refine r_aload_n dX5_says_54 rfl ?_
  refine r_get bX5 17 (by decide) q1540 dX5_says_55 rfl rfl ?_
  refine r_iload_n dX5_says_58 rfl ?_
  refine r_ialdN dX5_says_59 rfl (by omega) (Nat.le_of_ble_eq_true rfl) ?_
  refine r_bipush 10 dX5_says_60 (by decide) ?_
  rw [hh, show (10 : Int32) = nI 10 from rfl]
  refine r_isub dX5_says_62 ?_
  rw [pk_sub (by omega), show 10 + l - 10 = l by omega]
  refine r_istore_n dX5_says_63 (Nat.le_of_ble_eq_true rfl) ?_
  refine r_aload_n dX5_says_64 rfl ?_
  refine r_get bX5 2 (by decide) q1525 dX5_says_65 rfl rfl ?_
  refine r_iload_n dX5_says_68 rfl ?_
  refine r_ialdN dX5_says_69 rfl (by omega) (Nat.le_of_ble_eq_true rfl) ?_
  refine r_iload_n dX5_says_70 rfl ?_
  refine r_callS (as := [_, _]) okX5_isUnder q1676 dX5_says_71 (Nat.le_of_ble_eq_true rfl) rfl (Nat.le_of_ble_eq_true rfl) (Nat.le_of_ble_eq_true rfl) (Nat.le_of_ble_eq_true rfl) (pX5_isUnder ?_)
  refine r_if_ne 84 dX5_says_74 (by decide) (fun c_74 => ?_) (fun c_74 => ?_)
  · refine r_iload_n dX5_says_84 rfl ?_
    refine r_if_ne 95 dX5_says_85 (by decide) (fun c_85 => ?_) (fun c_85 => ?_)
    · refine r_aload_n dX5_says_95 rfl ?_
      refine r_iconst 1 dX5_says_96 (by decide) ?_
      refine r_iload_n dX5_says_97 rfl ?_
      refine r_ishl dX5_says_98 ?_
      refine r_callV (as := [_]) okX5_runs bX5 rfl rfl q1679 dX5_says_99 (Nat.le_of_ble_eq_true rfl) rfl (Nat.le_of_ble_eq_true rfl) (Nat.le_of_ble_eq_true rfl) (Nat.le_of_ble_eq_true rfl) (pX5_runs hn hk ho (fun od2 hod => ?_))
      refine r_aload_n dX5_says_102 rfl ?_
      refine r_get bX5 27 (by decide) q1550 dX5_says_103 rfl rfl ?_
      refine r_iload_n dX5_says_106 rfl ?_
      refine r_ialdN dX5_says_107 rfl (by omega) (Nat.le_of_ble_eq_true rfl) ?_
      exact r_iret dX5_says_108 rfl (Nat.le_of_ble_eq_true rfl) (Nat.le_of_ble_eq_true rfl) (hok (b2i_n.mp c_74) c_85 _ _ _ _ _)
    · refine r_aload_n dX5_says_88 rfl ?_
      refine r_get bX5 4 (by decide) q1527 dX5_says_89 rfl rfl ?_
      refine r_iload_n dX5_says_92 rfl ?_
      refine r_ialdN dX5_says_93 rfl (by omega) (Nat.le_of_ble_eq_true rfl) ?_
      exact r_iret dX5_says_94 rfl (Nat.le_of_ble_eq_true rfl) (Nat.le_of_ble_eq_true rfl) (h0 (b2i_n.mp c_74) c_85)
  · refine r_aload_n dX5_says_77 rfl ?_
    refine r_bipush (-3) dX5_says_78 (by decide) ?_
    refine r_callV (as := [_]) okX5_no bX5 rfl rfl q1633 dX5_says_80 (Nat.le_of_ble_eq_true rfl) rfl (Nat.le_of_ble_eq_true rfl) (Nat.le_of_ble_eq_true rfl) (Nat.le_of_ble_eq_true rfl) (pX5_no 3 (by decide) (by decide) ?_)
    exact r_iret dX5_says_83 rfl (Nat.le_of_ble_eq_true rfl) (Nat.le_of_ble_eq_true rfl) (hbad (b2i_0.mp c_74))
theorem pX5_newLooker {n : Nat} {k a g : Int32} (hn : n < 8) (hQ : Q (some (.int (nI n))) ((mC th (upd kd n k) (upd ow n a) (upd ag n g) (upd lk n 0) (upd co n 6) (upd sh n (-1)) (zrI hs (8 * n) 8) tp hd rl ro rf ol ah tr od tk fo wi ou ge mo (nI (n + 1)) ev se td fr to tn va im lo), r)) : AMet mX5_newLooker 1 0 0 [.ref 0, .int k, .int a, .int g] ((mC th kd ow ag lk co sh hs tp hd rl ro rf ol ah tr od tk fo wi ou ge mo (nI n) ev se td fr to tn va im lo), r) Q := by
  refine AMet.ofRch rfl rfl (Nat.le_of_ble_eq_true rfl) ?_
  refine r_aload_n dX5_newLooker_0 rfl ?_
  refine r_get bX5 2 (by decide) q1525 dX5_newLooker_1 rfl rfl ?_
  refine r_aload_n dX5_newLooker_4 rfl ?_
  refine r_get bX5 1 (by decide) q1524 dX5_newLooker_5 rfl rfl ?_
  refine r_iload_n dX5_newLooker_8 rfl ?_
  refine r_iastN dX5_newLooker_9 rfl (by omega) (Nat.le_of_ble_eq_true rfl) ?_
  refine r_aload_n dX5_newLooker_10 rfl ?_
  refine r_get bX5 3 (by decide) q1526 dX5_newLooker_11 rfl rfl ?_
  refine r_aload_n dX5_newLooker_14 rfl ?_
  refine r_get bX5 1 (by decide) q1524 dX5_newLooker_15 rfl rfl ?_
  refine r_iload_n dX5_newLooker_18 rfl ?_
  refine r_iastN dX5_newLooker_19 rfl (by omega) (Nat.le_of_ble_eq_true rfl) ?_
  refine r_aload_n dX5_newLooker_20 rfl ?_
  refine r_get bX5 4 (by decide) q1527 dX5_newLooker_21 rfl rfl ?_
  refine r_aload_n dX5_newLooker_24 rfl ?_
  refine r_get bX5 1 (by decide) q1524 dX5_newLooker_25 rfl rfl ?_
  refine r_iload_n dX5_newLooker_28 rfl ?_
  refine r_iastN dX5_newLooker_29 rfl (by omega) (Nat.le_of_ble_eq_true rfl) ?_
  refine r_aload_n dX5_newLooker_30 rfl ?_
  refine r_get bX5 5 (by decide) q1528 dX5_newLooker_31 rfl rfl ?_
  refine r_aload_n dX5_newLooker_34 rfl ?_
  refine r_get bX5 1 (by decide) q1524 dX5_newLooker_35 rfl rfl ?_
  refine r_iconst 0 dX5_newLooker_38 (by decide) ?_
  refine r_iastN dX5_newLooker_39 rfl (by omega) (Nat.le_of_ble_eq_true rfl) ?_
  refine r_aload_n dX5_newLooker_40 rfl ?_
  refine r_get bX5 6 (by decide) q1529 dX5_newLooker_41 rfl rfl ?_
  refine r_aload_n dX5_newLooker_44 rfl ?_
  refine r_get bX5 1 (by decide) q1524 dX5_newLooker_45 rfl rfl ?_
  refine r_bipush 6 dX5_newLooker_48 (by decide) ?_
  refine r_iastN dX5_newLooker_50 rfl (by omega) (Nat.le_of_ble_eq_true rfl) ?_
  refine r_aload_n dX5_newLooker_51 rfl ?_
  refine r_get bX5 7 (by decide) q1530 dX5_newLooker_52 rfl rfl ?_
  refine r_aload_n dX5_newLooker_55 rfl ?_
  refine r_get bX5 1 (by decide) q1524 dX5_newLooker_56 rfl rfl ?_
  refine r_iconst (-1) dX5_newLooker_59 (by decide) ?_
  refine r_iastN dX5_newLooker_60 rfl (by omega) (Nat.le_of_ble_eq_true rfl) ?_
  refine r_iconst 0 dX5_newLooker_61 (by decide) ?_
  refine r_istore dX5_newLooker_62 (Nat.le_of_ble_eq_true rfl) ?_
  refine eqP (P := fun z => Rch (mX5_newLooker, 1, 0, 0, oQ Q) 0 0 64 [some (.ref 0), some (.int k), some (.int a), some (.int g), some (.int (nI 0))] [] ((mC th (upd kd n k) (upd ow n a) (upd ag n g) (upd lk n 0) (upd co n 6) (upd sh n (-1)) (z) tp hd rl ro rf ol ah tr od tk fo wi ou ge mo (nI n) ev se td fr to tn va im lo), r)) (zrI_0 hs (8 * n)) ?_
  refine loopUp (N := 8) (P := fun i => Rch (mX5_newLooker, 1, 0, 0, oQ Q) 0 0 64 [some (.ref 0), some (.int k), some (.int a), some (.int g), some (.int (nI i))] [] ((mC th (upd kd n k) (upd ow n a) (upd ag n g) (upd lk n 0) (upd co n 6) (upd sh n (-1)) (zrI hs (8 * n) i) tp hd rl ro rf ol ah tr od tk fo wi ou ge mo (nI n) ev se td fr to tn va im lo), r)) ?_ ?_
  · refine r_iload dX5_newLooker_64 rfl ?_
    refine r_bipush 8 dX5_newLooker_66 (by decide) ?_
    refine r_icmp_ge 93 dX5_newLooker_68 (by decide) (fun _ => ?_) (fun c_ => absurd (geT 8) c_)
    refine r_aload_n dX5_newLooker_93 rfl ?_
    refine r_dup dX5_newLooker_94 rfl ?_
    refine r_get bX5 1 (by decide) q1524 dX5_newLooker_95 rfl rfl ?_
    refine r_dup_x1 dX5_newLooker_98 rfl rfl ?_
    refine r_iconst 1 dX5_newLooker_99 (by decide) ?_
    refine r_iadd dX5_newLooker_100 ?_
    rw [nI_1]
    refine r_put bX5 1 (by decide) rfl q1524 dX5_newLooker_101 rfl rfl rfl (Nat.le_of_ble_eq_true rfl) ?_
    exact r_iret dX5_newLooker_104 rfl (Nat.le_of_ble_eq_true rfl) (Nat.le_of_ble_eq_true rfl) (hQ)
  · intro i hi ih
    refine r_iload dX5_newLooker_64 rfl ?_
    refine r_bipush 8 dX5_newLooker_66 (by decide) ?_
    refine r_icmp_ge 93 dX5_newLooker_68 (by decide) (fun c_ => absurd c_ (geF hi (by decide))) (fun _ => ?_)
    refine r_aload_n dX5_newLooker_71 rfl ?_
    refine r_get bX5 8 (by decide) q1531 dX5_newLooker_72 rfl rfl ?_
    refine r_bipush 8 dX5_newLooker_75 (by decide) ?_
    refine r_aload_n dX5_newLooker_77 rfl ?_
    refine r_get bX5 1 (by decide) q1524 dX5_newLooker_78 rfl rfl ?_
    refine r_imul dX5_newLooker_81 ?_
    rw [show (8 : Int32) * nI n = nI (8 * n) from pk_mul 8 n]
    refine r_iload dX5_newLooker_82 rfl ?_
    refine r_iadd dX5_newLooker_84 ?_
    rw [nI_add]
    refine r_iconst 0 dX5_newLooker_85 (by decide) ?_
    refine r_iastN dX5_newLooker_86 rfl (by omega) (Nat.le_of_ble_eq_true rfl) ?_
    refine r_iincV dX5_newLooker_87 rfl (Nat.le_of_ble_eq_true rfl) (incN _) ?_
    refine r_goto 64 dX5_newLooker_90 (by decide) ?_
    rw [← zrI_up] at ih
    exact ih
theorem pX5_looker {n : Nat} {k a g : Int32} (hn : n ≤ 8) (hbad : (inB k 0 5 && (inB a 0 7 && inB g 0 99)) = false → Q (some (.int (-2))) ((mC th kd ow ag lk co sh hs tp hd rl ro (upd rf 2 (rf 2 + 1)) ol ah tr od tk fo wi ou ge mo (nI n) ev se td fr to tn va im lo), r)) (hfull : inB k 0 5 = true → inB a 0 7 = true → inB g 0 99 = true → n = 8 → Q (some (.int (-6))) ((mC th kd ow ag lk co sh hs tp hd rl ro (upd rf 6 (rf 6 + 1)) ol ah tr od tk fo wi ou ge mo (nI n) ev se td fr to tn va im lo), r)) (hok : inB k 0 5 = true → inB a 0 7 = true → inB g 0 99 = true → n < 8 → Q (some (.int (nI n))) ((mC th (upd kd n k) (upd ow n a) (upd ag n g) (upd lk n 0) (upd co n 6) (upd sh n (-1)) (zrI hs (8 * n) 8) tp hd rl ro rf ol ah tr od tk fo wi ou ge mo (nI (n + 1)) ev se td fr to tn va im lo), r)) : AMet mX5_looker 3 0 0 [.ref 0, .int k, .int a, .int g] ((mC th kd ow ag lk co sh hs tp hd rl ro rf ol ah tr od tk fo wi ou ge mo (nI n) ev se td fr to tn va im lo), r) Q := by
  refine AMet.ofRch rfl rfl (Nat.le_of_ble_eq_true rfl) ?_
  refine r_iload_n dX5_looker_0 rfl ?_
  refine r_iconst 0 dX5_looker_1 (by decide) ?_
  refine r_iconst 5 dX5_looker_2 (by decide) ?_
  refine r_callS (as := [_, _, _]) okX5_within q1630 dX5_looker_3 (Nat.le_of_ble_eq_true rfl) rfl (Nat.le_of_ble_eq_true rfl) (Nat.le_of_ble_eq_true rfl) (Nat.le_of_ble_eq_true rfl) (pX5_within ?_)
  refine r_if_eq 26 dX5_looker_6 (by decide) (fun c_6 => ?_) (fun c_6 => ?_)
  · refine r_aload_n dX5_looker_26 rfl ?_
    refine r_bipush (-2) dX5_looker_27 (by decide) ?_
    refine r_callV (as := [_]) okX5_no bX5 rfl rfl q1633 dX5_looker_29 (Nat.le_of_ble_eq_true rfl) rfl (Nat.le_of_ble_eq_true rfl) (Nat.le_of_ble_eq_true rfl) (Nat.le_of_ble_eq_true rfl) (pX5_no 2 (by decide) (by decide) ?_)
    exact r_iret dX5_looker_32 rfl (Nat.le_of_ble_eq_true rfl) (Nat.le_of_ble_eq_true rfl) (hbad (by simp_all [b2i_0]))
  · refine r_iload_n dX5_looker_9 rfl ?_
    refine r_callS (as := [_]) okX5_isSort q1737 dX5_looker_10 (Nat.le_of_ble_eq_true rfl) rfl (Nat.le_of_ble_eq_true rfl) (Nat.le_of_ble_eq_true rfl) (Nat.le_of_ble_eq_true rfl) (pX5_isSort ?_)
    refine r_if_eq 26 dX5_looker_13 (by decide) (fun c_13 => ?_) (fun c_13 => ?_)
    · refine r_aload_n dX5_looker_26 rfl ?_
      refine r_bipush (-2) dX5_looker_27 (by decide) ?_
      refine r_callV (as := [_]) okX5_no bX5 rfl rfl q1633 dX5_looker_29 (Nat.le_of_ble_eq_true rfl) rfl (Nat.le_of_ble_eq_true rfl) (Nat.le_of_ble_eq_true rfl) (Nat.le_of_ble_eq_true rfl) (pX5_no 2 (by decide) (by decide) ?_)
      exact r_iret dX5_looker_32 rfl (Nat.le_of_ble_eq_true rfl) (Nat.le_of_ble_eq_true rfl) (hbad (by simp_all [b2i_0]))
    · refine r_iload_n dX5_looker_16 rfl ?_
      refine r_iconst 0 dX5_looker_17 (by decide) ?_
      refine r_bipush 99 dX5_looker_18 (by decide) ?_
      refine r_callS (as := [_, _, _]) okX5_within q1630 dX5_looker_20 (Nat.le_of_ble_eq_true rfl) rfl (Nat.le_of_ble_eq_true rfl) (Nat.le_of_ble_eq_true rfl) (Nat.le_of_ble_eq_true rfl) (pX5_within ?_)
      refine r_if_ne 33 dX5_looker_23 (by decide) (fun c_23 => ?_) (fun c_23 => ?_)
      · by_cases h8 : n = 8
        · subst h8
          refine r_aload_n dX5_looker_33 rfl ?_
          refine r_get bX5 1 (by decide) q1524 dX5_looker_34 rfl rfl ?_
          refine r_bipush 8 dX5_looker_37 (by decide) ?_
          refine r_icmp_ne 51 dX5_looker_39 (by decide) (fun c_ => absurd (rfl) c_) (fun _ => ?_)
          refine r_aload_n dX5_looker_42 rfl ?_
          refine r_bipush (-6) dX5_looker_43 (by decide) ?_
          refine r_callV (as := [_]) okX5_no bX5 rfl rfl q1633 dX5_looker_45 (Nat.le_of_ble_eq_true rfl) rfl (Nat.le_of_ble_eq_true rfl) (Nat.le_of_ble_eq_true rfl) (Nat.le_of_ble_eq_true rfl) (pX5_no 6 (by decide) (by decide) ?_)
          refine r_goto 58 dX5_looker_48 (by decide) ?_
          exact r_iret dX5_looker_58 rfl (Nat.le_of_ble_eq_true rfl) (Nat.le_of_ble_eq_true rfl) (hfull (b2i_n.mp c_6) (b2i_n.mp c_13) (b2i_n.mp c_23) rfl)
        · refine r_aload_n dX5_looker_33 rfl ?_
          refine r_get bX5 1 (by decide) q1524 dX5_looker_34 rfl rfl ?_
          refine r_bipush 8 dX5_looker_37 (by decide) ?_
          refine r_icmp_ne 51 dX5_looker_39 (by decide) (fun _ => ?_) (fun c_ => absurd c_ (fun z => h8 ((nI_eq (by omega) (by decide)).mp z)))
          refine r_aload_n dX5_looker_51 rfl ?_
          refine r_iload_n dX5_looker_52 rfl ?_
          refine r_iload_n dX5_looker_53 rfl ?_
          refine r_iload_n dX5_looker_54 rfl ?_
          refine r_callV (as := [_, _, _]) okX5_newLooker bX5 rfl rfl q1740 dX5_looker_55 (Nat.le_of_ble_eq_true rfl) rfl (Nat.le_of_ble_eq_true rfl) (Nat.le_of_ble_eq_true rfl) (Nat.le_of_ble_eq_true rfl) (pX5_newLooker (by omega) ?_)
          exact r_iret dX5_looker_58 rfl (Nat.le_of_ble_eq_true rfl) (Nat.le_of_ble_eq_true rfl) (hok (b2i_n.mp c_6) (b2i_n.mp c_13) (b2i_n.mp c_23) (by omega))
      · refine r_aload_n dX5_looker_26 rfl ?_
        refine r_bipush (-2) dX5_looker_27 (by decide) ?_
        refine r_callV (as := [_]) okX5_no bX5 rfl rfl q1633 dX5_looker_29 (Nat.le_of_ble_eq_true rfl) rfl (Nat.le_of_ble_eq_true rfl) (Nat.le_of_ble_eq_true rfl) (Nat.le_of_ble_eq_true rfl) (pX5_no 2 (by decide) (by decide) ?_)
        exact r_iret dX5_looker_32 rfl (Nat.le_of_ble_eq_true rfl) (Nat.le_of_ble_eq_true rfl) (hbad (by simp_all [b2i_0]))
theorem pX5_likes {n : Nat} {l s b : Int32} (hn : n ≤ 8) (hbad : (inB l 0 (nI n - 1) && inB s 0 7) = false → Q (some (.int (-2))) ((mC th kd ow ag lk co sh hs tp hd rl ro (upd rf 2 (rf 2 + 1)) ol ah tr od tk fo wi ou ge mo (nI n) ev se td fr to tn va im lo), r)) (hok : ∀ j, j < n → l = nI j → inB s 0 7 = true → Q (some (.int (b2i (hasB (lk j) s)))) ((mC th kd ow ag (upd lk j (if b = 0 then lk j &&& ((1 <<< (s &&& 31)) ^^^ (-1)) else lk j ||| (1 <<< (s &&& 31)))) co sh hs tp hd rl ro rf ol ah tr od tk fo wi ou ge mo (nI n) ev se td fr to tn va im lo), r)) : AMet mX5_likes 3 0 0 [.ref 0, .int l, .int s, .int b] ((mC th kd ow ag lk co sh hs tp hd rl ro rf ol ah tr od tk fo wi ou ge mo (nI n) ev se td fr to tn va im lo), r) Q := by
  refine AMet.ofRch rfl rfl (Nat.le_of_ble_eq_true rfl) ?_
  refine r_aload_n dX5_likes_0 rfl ?_
  refine r_iload_n dX5_likes_1 rfl ?_
  refine r_callV (as := [_]) okX5_isLooker bX5 rfl rfl q1668 dX5_likes_2 (Nat.le_of_ble_eq_true rfl) rfl (Nat.le_of_ble_eq_true rfl) (Nat.le_of_ble_eq_true rfl) (Nat.le_of_ble_eq_true rfl) (pX5_isLooker ?_)
  refine r_if_eq 15 dX5_likes_5 (by decide) (fun c_5 => ?_) (fun c_5 => ?_)
  · refine r_aload_n dX5_likes_15 rfl ?_
    refine r_bipush (-2) dX5_likes_16 (by decide) ?_
    refine r_callV (as := [_]) okX5_no bX5 rfl rfl q1633 dX5_likes_18 (Nat.le_of_ble_eq_true rfl) rfl (Nat.le_of_ble_eq_true rfl) (Nat.le_of_ble_eq_true rfl) (Nat.le_of_ble_eq_true rfl) (pX5_no 2 (by decide) (by decide) ?_)
    exact r_iret dX5_likes_21 rfl (Nat.le_of_ble_eq_true rfl) (Nat.le_of_ble_eq_true rfl) (hbad (by simp_all [b2i_0]))
  · refine r_iload_n dX5_likes_8 rfl ?_
    refine r_callS (as := [_]) okX5_isSort q1737 dX5_likes_9 (Nat.le_of_ble_eq_true rfl) rfl (Nat.le_of_ble_eq_true rfl) (Nat.le_of_ble_eq_true rfl) (Nat.le_of_ble_eq_true rfl) (pX5_isSort ?_)
    refine r_if_ne 22 dX5_likes_12 (by decide) (fun c_12 => ?_) (fun c_12 => ?_)
    · obtain ⟨j, hj, rfl⟩ := inB_m (b2i_n.mp c_5) (by omega)
      have hq := hok j hj rfl (b2i_n.mp c_12)
      unfold hasB at hq
      rw [← and1] at hq
      refine r_aload_n dX5_likes_22 rfl ?_
      refine r_get bX5 5 (by decide) q1528 dX5_likes_23 rfl rfl ?_
      refine r_iload_n dX5_likes_26 rfl ?_
      refine r_ialdN dX5_likes_27 rfl (by omega) (Nat.le_of_ble_eq_true rfl) ?_
      refine r_iload_n dX5_likes_28 rfl ?_
      refine r_ishr dX5_likes_29 ?_
      refine r_iconst 1 dX5_likes_30 (by decide) ?_
      refine r_iand dX5_likes_31 ?_
      refine r_istore dX5_likes_32 (Nat.le_of_ble_eq_true rfl) ?_
      refine r_aload_n dX5_likes_34 rfl ?_
      refine r_get bX5 5 (by decide) q1528 dX5_likes_35 rfl rfl ?_
      refine r_iload_n dX5_likes_38 rfl ?_
      refine r_iload_n dX5_likes_39 rfl ?_
      refine r_if_eq 56 dX5_likes_40 (by decide) (fun c_40 => ?_) (fun c_40 => ?_)
      · refine r_aload_n dX5_likes_56 rfl ?_
        refine r_get bX5 5 (by decide) q1528 dX5_likes_57 rfl rfl ?_
        refine r_iload_n dX5_likes_60 rfl ?_
        refine r_ialdN dX5_likes_61 rfl (by omega) (Nat.le_of_ble_eq_true rfl) ?_
        refine r_iconst 1 dX5_likes_62 (by decide) ?_
        refine r_iload_n dX5_likes_63 rfl ?_
        refine r_ishl dX5_likes_64 ?_
        refine r_iconst (-1) dX5_likes_65 (by decide) ?_
        refine r_ixor dX5_likes_66 ?_
        refine r_iand dX5_likes_67 ?_
        refine r_iastN dX5_likes_68 rfl (by omega) (Nat.le_of_ble_eq_true rfl) ?_
        refine r_iload dX5_likes_69 rfl ?_
        exact r_iret dX5_likes_71 rfl (Nat.le_of_ble_eq_true rfl) (Nat.le_of_ble_eq_true rfl) (by (first | rw [if_pos c_40] at hq | rw [if_neg c_40] at hq); exact hq)
      · refine r_aload_n dX5_likes_43 rfl ?_
        refine r_get bX5 5 (by decide) q1528 dX5_likes_44 rfl rfl ?_
        refine r_iload_n dX5_likes_47 rfl ?_
        refine r_ialdN dX5_likes_48 rfl (by omega) (Nat.le_of_ble_eq_true rfl) ?_
        refine r_iconst 1 dX5_likes_49 (by decide) ?_
        refine r_iload_n dX5_likes_50 rfl ?_
        refine r_ishl dX5_likes_51 ?_
        refine r_ior dX5_likes_52 ?_
        refine r_goto 68 dX5_likes_53 (by decide) ?_
        refine r_iastN dX5_likes_68 rfl (by omega) (Nat.le_of_ble_eq_true rfl) ?_
        refine r_iload dX5_likes_69 rfl ?_
        exact r_iret dX5_likes_71 rfl (Nat.le_of_ble_eq_true rfl) (Nat.le_of_ble_eq_true rfl) (by (first | rw [if_pos c_40] at hq | rw [if_neg c_40] at hq); exact hq)
    · refine r_aload_n dX5_likes_15 rfl ?_
      refine r_bipush (-2) dX5_likes_16 (by decide) ?_
      refine r_callV (as := [_]) okX5_no bX5 rfl rfl q1633 dX5_likes_18 (Nat.le_of_ble_eq_true rfl) rfl (Nat.le_of_ble_eq_true rfl) (Nat.le_of_ble_eq_true rfl) (Nat.le_of_ble_eq_true rfl) (pX5_no 2 (by decide) (by decide) ?_)
      exact r_iret dX5_likes_21 rfl (Nat.le_of_ble_eq_true rfl) (Nat.le_of_ble_eq_true rfl) (hbad (by simp_all [b2i_0]))
end MM
