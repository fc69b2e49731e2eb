set_option maxRecDepth 100000
/-! the component: holds, show, becomes -/
theorem inB_mF {x n : Nat} (hx : x < 2 ^ 31) (h : n ≤ x) : inB (nI x) 0 (nI n - 1) = false := by
  cases hb : inB (nI x) 0 (nI n - 1) with
  | false => rfl
  | true =>
    exfalso
    obtain ⟨q, hq, e⟩ := inB_m hb (by omega)
    have := congrArg Int32.toInt e
    rw [nI_toInt hx, nI_toInt (by omega)] at this
    omega
section XX
variable {iv : Value} {tP : Nat → Int32} {tL : Nat → Option Nat} {tA tK tC tS tH : Nat → Int32} {tN tE tZ tf : Int32} {mP : Nat → Int32} {mf : Int32} {eP eT eF : Nat → Int32} {ef eg : Int32} {ew : Value} {rx gx wx : Nat → Int32} {hv : Nat → Value} {tp : Nat → Int32} {td : Int32} {rf : Nat → Int32} {rc ic : Nat → AC} {th : Nat → Int32} {pf : Int32} {nl : Nat → Option Nat} {ag lk co sh hs : Nat → Int32} {my ev se : Int32} {lc : Nat → AC} {r0 r3 : List AC} {Q : Option Value → AHp → Prop} {n : Nat} {kN : Nat → Nat} {ow : Nat → Int32}
theorem pX0_holds_bad {h2 : List AC} {s : Int32} (hb : inB s 0 7 = false) (hQ : Q (some (.int (-1))) (r0, (xC (.ref 2) iv tP tL tA tK tC tS tH tN tE tZ tf mP mf eP eT eF ef eg ew rx gx wx hv tp td rf rc ic), h2, r3)) : AMet mX0_holds 3 0 0 [.ref 1, .int s] (r0, (xC (.ref 2) iv tP tL tA tK tC tS tH tN tE tZ tf mP mf eP eT eF ef eg ew rx gx wx hv tp td rf rc ic), h2, r3) Q := by
  refine AMet.ofRch rfl rfl (Nat.le_of_ble_eq_true rfl) ?_
  refine r_iload_n dX0_holds_0 rfl ?_
  refine r_callS (as := [_]) okX0_isShelf q375 dX0_holds_1 (Nat.le_of_ble_eq_true rfl) rfl (Nat.le_of_ble_eq_true rfl) (Nat.le_of_ble_eq_true rfl) (Nat.le_of_ble_eq_true rfl) (pX0_isShelf ?_)
  refine r_if_eq 19 dX0_holds_4 (by decide) (fun _ => ?_) (fun c_ => absurd (b2i_0.mpr hb) c_)
  refine r_iconst (-1) dX0_holds_19 (by decide) ?_
  exact r_iret dX0_holds_20 rfl (Nat.le_of_ble_eq_true rfl) (Nat.le_of_ble_eq_true rfl) (hQ)
theorem pX0_holds_0 {h2 : List AC} {j : Nat} (hj : j < 8) (e1 : hv j = .null) (hQ : Q (some (.int (-1))) (r0, (xC (.ref 2) iv tP tL tA tK tC tS tH tN tE tZ tf mP mf eP eT eF ef eg ew rx gx wx hv tp td rf rc ic), h2, r3)) : AMet mX0_holds 3 0 0 [.ref 1, .int (nI j)] (r0, (xC (.ref 2) iv tP tL tA tK tC tS tH tN tE tZ tf mP mf eP eT eF ef eg ew rx gx wx hv tp td rf rc ic), h2, r3) Q := by
  refine AMet.ofRch rfl rfl (Nat.le_of_ble_eq_true rfl) ?_
  refine r_iload_n dX0_holds_0 rfl ?_
  refine r_callS (as := [_]) okX0_isShelf q375 dX0_holds_1 (Nat.le_of_ble_eq_true rfl) rfl (Nat.le_of_ble_eq_true rfl) (Nat.le_of_ble_eq_true rfl) (Nat.le_of_ble_eq_true rfl) (pX0_isShelf ?_)
  refine r_if_eq 19 dX0_holds_4 (by decide) (fun c_ => absurd c_ (in8 hj)) (fun _ => ?_)
  refine r_aload_n dX0_holds_7 rfl ?_
  refine r_get bX0 8 (by decide) q254 dX0_holds_8 rfl rfl ?_
  refine r_iload_n dX0_holds_11 rfl ?_
  refine r_aald_sheet dX0_holds_12 rfl (vp_in_nI (by omega) (by omega)) ?_
  rw [nI_clamp (by omega)]
  refine r_get bX4 0 (by decide) q242 dX0_holds_13 (sh_at hj) rfl ?_
  rw [e1]
  refine r_ifnonnullN dX0_holds_16 ?_
  refine r_iconst (-1) dX0_holds_19 (by decide) ?_
  exact r_iret dX0_holds_20 rfl (Nat.le_of_ble_eq_true rfl) (Nat.le_of_ble_eq_true rfl) (hQ)
theorem pX0_holds_l {h2 : List AC} {j : Nat} {a c : Nat} {nu w : Int32} (hj : j < 8) (e1 : hv j = .ref a) (hc : c < 6) (hg : aGet (r0, (xC (.ref 2) iv tP tL tA tK tC tS tH tN tE tZ tf mP mf eP eT eF ef eg ew rx gx wx hv tp td rf rc ic), h2, r3) a = some (.inr (7 + c, [.int nu, .int w]))) (hQ : Q (some (.int (10 + nu))) (r0, (xC (.ref 2) iv tP tL tA tK tC tS tH tN tE tZ tf mP mf eP eT eF ef eg ew rx gx wx hv tp td rf rc ic), h2, r3)) : AMet mX0_holds 3 0 0 [.ref 1, .int (nI j)] (r0, (xC (.ref 2) iv tP tL tA tK tC tS tH tN tE tZ tf mP mf eP eT eF ef eg ew rx gx wx hv tp td rf rc ic), h2, r3) Q := by
  refine AMet.ofRch rfl rfl (Nat.le_of_ble_eq_true rfl) ?_
  refine r_iload_n dX0_holds_0 rfl ?_
  refine r_callS (as := [_]) okX0_isShelf q375 dX0_holds_1 (Nat.le_of_ble_eq_true rfl) rfl (Nat.le_of_ble_eq_true rfl) (Nat.le_of_ble_eq_true rfl) (Nat.le_of_ble_eq_true rfl) (pX0_isShelf ?_)
  refine r_if_eq 19 dX0_holds_4 (by decide) (fun c_ => absurd c_ (in8 hj)) (fun _ => ?_)
  refine r_aload_n dX0_holds_7 rfl ?_
  refine r_get bX0 8 (by decide) q254 dX0_holds_8 rfl rfl ?_
  refine r_iload_n dX0_holds_11 rfl ?_
  refine r_aald_sheet dX0_holds_12 rfl (vp_in_nI (by omega) (by omega)) ?_
  rw [nI_clamp (by omega)]
  refine r_get bX4 0 (by decide) q242 dX0_holds_13 (sh_at hj) rfl ?_
  rw [e1]
  refine r_ifnonnull 21 dX0_holds_16 (by decide) ?_
  refine r_aload_n dX0_holds_21 rfl ?_
  refine r_get bX0 8 (by decide) q254 dX0_holds_22 rfl rfl ?_
  refine r_iload_n dX0_holds_25 rfl ?_
  refine r_aald_sheet dX0_holds_26 rfl (vp_in_nI (by omega) (by omega)) ?_
  rw [nI_clamp (by omega)]
  refine r_get bX4 0 (by decide) q242 dX0_holds_27 (sh_at hj) rfl ?_
  rw [e1]
  refine r_astore_n dX0_holds_30 (Nat.le_of_ble_eq_true rfl) ?_
  refine r_aload_n dX0_holds_31 rfl ?_
  refine r_inst_lk hc hg q419 dX0_holds_32 ?_
  refine r_if_eq 51 dX0_holds_35 (by decide) (fun c_ => absurd c_ (by decide)) (fun _ => ?_)
  refine r_bipush 10 dX0_holds_38 (by decide) ?_
  refine r_aload_n dX0_holds_40 rfl ?_
  refine r_cast_lk hc hg q419 dX0_holds_41 ?_
  refine r_lkN q674 dX0_holds_44 hc hg ?_
  refine r_iadd dX0_holds_47 ?_
  refine r_goto 55 dX0_holds_48 (by decide) ?_
  exact r_iret dX0_holds_55 rfl (Nat.le_of_ble_eq_true rfl) (Nat.le_of_ble_eq_true rfl) (hQ)
theorem pX0_holds_r {h2 : List AC} {j : Nat} {a k m : Nat} {f : Nat → Int64} (hj : j < 8) (e1 : hv j = .ref a) (hk : k < 5) (hg : aGet (r0, (xC (.ref 2) iv tP tL tA tK tC tS tH tN tE tZ tf mP mf eP eT eF ef eg ew rx gx wx hv tp td rf rc ic), h2, r3) a = some (rwC k m f)) (hQ : Q (some (.int (nI k))) (r0, (xC (.ref 2) iv tP tL tA tK tC tS tH tN tE tZ tf mP mf eP eT eF ef eg ew rx gx wx hv tp td rf rc ic), h2, r3)) : AMet mX0_holds 3 0 0 [.ref 1, .int (nI j)] (r0, (xC (.ref 2) iv tP tL tA tK tC tS tH tN tE tZ tf mP mf eP eT eF ef eg ew rx gx wx hv tp td rf rc ic), h2, r3) Q := by
  refine AMet.ofRch rfl rfl (Nat.le_of_ble_eq_true rfl) ?_
  refine r_iload_n dX0_holds_0 rfl ?_
  refine r_callS (as := [_]) okX0_isShelf q375 dX0_holds_1 (Nat.le_of_ble_eq_true rfl) rfl (Nat.le_of_ble_eq_true rfl) (Nat.le_of_ble_eq_true rfl) (Nat.le_of_ble_eq_true rfl) (pX0_isShelf ?_)
  refine r_if_eq 19 dX0_holds_4 (by decide) (fun c_ => absurd c_ (in8 hj)) (fun _ => ?_)
  refine r_aload_n dX0_holds_7 rfl ?_
  refine r_get bX0 8 (by decide) q254 dX0_holds_8 rfl rfl ?_
  refine r_iload_n dX0_holds_11 rfl ?_
  refine r_aald_sheet dX0_holds_12 rfl (vp_in_nI (by omega) (by omega)) ?_
  rw [nI_clamp (by omega)]
  refine r_get bX4 0 (by decide) q242 dX0_holds_13 (sh_at hj) rfl ?_
  rw [e1]
  refine r_ifnonnull 21 dX0_holds_16 (by decide) ?_
  refine r_aload_n dX0_holds_21 rfl ?_
  refine r_get bX0 8 (by decide) q254 dX0_holds_22 rfl rfl ?_
  refine r_iload_n dX0_holds_25 rfl ?_
  refine r_aald_sheet dX0_holds_26 rfl (vp_in_nI (by omega) (by omega)) ?_
  rw [nI_clamp (by omega)]
  refine r_get bX4 0 (by decide) q242 dX0_holds_27 (sh_at hj) rfl ?_
  rw [e1]
  refine r_astore_n dX0_holds_30 (Nat.le_of_ble_eq_true rfl) ?_
  refine r_aload_n dX0_holds_31 rfl ?_
  refine r_instNo (isA_row k hg) (nc_row k) q419 dX0_holds_32 ?_
  refine r_if_eq 51 dX0_holds_35 (by decide) (fun _ => ?_) (fun c_ => absurd (rfl) c_)
  refine r_aload_n dX0_holds_51 rfl ?_
  refine r_callS (as := [_]) okX0_sortOf q449 dX0_holds_52 (Nat.le_of_ble_eq_true rfl) rfl (Nat.le_of_ble_eq_true rfl) (Nat.le_of_ble_eq_true rfl) (Nat.le_of_ble_eq_true rfl) (pX0_sortOf hk hg ?_)
  exact r_iret dX0_holds_55 rfl (Nat.le_of_ble_eq_true rfl) (Nat.le_of_ble_eq_true rfl) (hQ)
theorem pX0_show_bad {s l : Int32} (hb : (inB s 0 7 && (l == -1 || inB l 0 (my - 1))) = false) (hQ : Q (some (.int (-2))) (r0, (xC (.ref 2) iv tP tL tA tK tC tS tH tN tE tZ tf mP mf eP eT eF ef eg ew rx gx wx hv tp td (upd rf 2 (rf 2 + 1)) rc ic), (wC th pf nl ag lk co sh hs my ev se lc), r3)) : AMet mX0_show 3 0 0 [.ref 1, .int s, .int l] (r0, (xC (.ref 2) iv tP tL tA tK tC tS tH tN tE tZ tf mP mf eP eT eF ef eg ew rx gx wx hv tp td rf rc ic), (wC th pf nl ag lk co sh hs my ev se lc), r3) Q := by
  refine AMet.ofRch rfl rfl (Nat.le_of_ble_eq_true rfl) ?_
  refine r_iload_n dX0_show_0 rfl ?_
  refine r_callS (as := [_]) okX0_isShelf q375 dX0_show_1 (Nat.le_of_ble_eq_true rfl) rfl (Nat.le_of_ble_eq_true rfl) (Nat.le_of_ble_eq_true rfl) (Nat.le_of_ble_eq_true rfl) (pX0_isShelf ?_)
  refine r_if_eq 23 dX0_show_4 (by decide) (fun c_4 => ?_) (fun c_4 => ?_)
  · refine r_aload_n dX0_show_23 rfl ?_
    refine r_bipush (-2) dX0_show_24 (by decide) ?_
    refine r_callV (as := [_]) okX0_no bX0 rfl rfl q381 dX0_show_26 (Nat.le_of_ble_eq_true rfl) rfl (Nat.le_of_ble_eq_true rfl) (Nat.le_of_ble_eq_true rfl) (Nat.le_of_ble_eq_true rfl) (pX0_no 2 (by decide) (by decide) ?_)
    exact r_iret dX0_show_29 rfl (Nat.le_of_ble_eq_true rfl) (Nat.le_of_ble_eq_true rfl) (hQ)
  · refine r_iload_n dX0_show_7 rfl ?_
    refine r_iconst (-1) dX0_show_8 (by decide) ?_
    refine r_icmp_eq 30 dX0_show_9 (by decide) (fun c_9 => ?_) (fun c_9 => ?_)
    · exfalso
      first | (have g1 := b2i_n.mp c_4; have g2 := b2i_n.mp c_20; rw [g1, g2] at hb; simp at hb) | (have g1 := b2i_n.mp c_4; rw [g1] at hb; simp [c_9] at hb)
    · refine r_aload_n dX0_show_12 rfl ?_
      refine r_get bX0 0 (by decide) q246 dX0_show_13 rfl rfl ?_
      refine r_iload_n dX0_show_16 rfl ?_
      refine r_callV (as := [_]) okX1_isLooker bX1 rfl rfl q519 dX0_show_17 (Nat.le_of_ble_eq_true rfl) rfl (Nat.le_of_ble_eq_true rfl) (Nat.le_of_ble_eq_true rfl) (Nat.le_of_ble_eq_true rfl) (pX1_isLooker rfl ?_)
      refine r_if_ne 30 dX0_show_20 (by decide) (fun c_20 => ?_) (fun c_20 => ?_)
      · exfalso
        first | (have g1 := b2i_n.mp c_4; have g2 := b2i_n.mp c_20; rw [g1, g2] at hb; simp at hb) | (have g1 := b2i_n.mp c_4; rw [g1] at hb; simp [c_9] at hb)
      · refine r_aload_n dX0_show_23 rfl ?_
        refine r_bipush (-2) dX0_show_24 (by decide) ?_
        refine r_callV (as := [_]) okX0_no bX0 rfl rfl q381 dX0_show_26 (Nat.le_of_ble_eq_true rfl) rfl (Nat.le_of_ble_eq_true rfl) (Nat.le_of_ble_eq_true rfl) (Nat.le_of_ble_eq_true rfl) (pX0_no 2 (by decide) (by decide) ?_)
        exact r_iret dX0_show_29 rfl (Nat.le_of_ble_eq_true rfl) (Nat.le_of_ble_eq_true rfl) (hQ)
theorem pX0_show_0 {h2 : List AC} {j : Nat} (hj : j < 8) (hQ : Q (some (.int 1)) (r0, (xC (.ref 2) iv tP tL tA tK tC tS tH tN tE tZ tf mP mf eP eT eF ef eg ew rx gx wx (va_up hv j .null) tp td rf rc ic), h2, r3)) : AMet mX0_show 3 0 0 [.ref 1, .int (nI j), .int (-1)] (r0, (xC (.ref 2) iv tP tL tA tK tC tS tH tN tE tZ tf mP mf eP eT eF ef eg ew rx gx wx hv tp td rf rc ic), h2, r3) Q := by
  refine AMet.ofRch rfl rfl (Nat.le_of_ble_eq_true rfl) ?_
  refine r_iload_n dX0_show_0 rfl ?_
  refine r_callS (as := [_]) okX0_isShelf q375 dX0_show_1 (Nat.le_of_ble_eq_true rfl) rfl (Nat.le_of_ble_eq_true rfl) (Nat.le_of_ble_eq_true rfl) (Nat.le_of_ble_eq_true rfl) (pX0_isShelf ?_)
  refine r_if_eq 23 dX0_show_4 (by decide) (fun c_ => absurd c_ (in8 hj)) (fun _ => ?_)
  refine r_iload_n dX0_show_7 rfl ?_
  refine r_iconst (-1) dX0_show_8 (by decide) ?_
  refine r_icmp_eq 30 dX0_show_9 (by decide) (fun _ => ?_) (fun c_ => absurd (rfl) c_)
  refine r_aload_n dX0_show_30 rfl ?_
  refine r_get bX0 8 (by decide) q254 dX0_show_31 rfl rfl ?_
  refine r_iload_n dX0_show_34 rfl ?_
  refine r_aald_sheet dX0_show_35 rfl (vp_in_nI (by omega) (by omega)) ?_
  rw [nI_clamp (by omega)]
  refine r_iload_n dX0_show_36 rfl ?_
  refine r_iconst (-1) dX0_show_37 (by decide) ?_
  refine r_icmp_ne 45 dX0_show_38 (by decide) (fun c_ => absurd (rfl) c_) (fun _ => ?_)
  refine r_null dX0_show_41 ?_
  refine r_goto 54 dX0_show_42 (by decide) ?_
  refine r_put bX4 0 (by decide) rfl q242 dX0_show_54 rfl rfl (sh_at hj) (Nat.le_of_ble_eq_true rfl) ?_
  show Rch _ _ _ _ _ _ (aSet _ _ (.inr (4, [.null])))
  rw [sh_set hj]
  refine r_iconst 1 dX0_show_57 (by decide) ?_
  exact r_iret dX0_show_58 rfl (Nat.le_of_ble_eq_true rfl) (Nat.le_of_ble_eq_true rfl) (hQ)
theorem pX0_show_l {j x y : Nat} (hj : j < 8) (hn : n ≤ 8) (hx : x < n) (hnl : nl x = some y) (hQ : Q (some (.int 1)) (r0, (xC (.ref 2) iv tP tL tA tK tC tS tH tN tE tZ tf mP mf eP eT eF ef eg ew rx gx wx (va_up hv j (.ref y)) tp td rf rc ic), (wC th pf nl ag lk co sh hs (nI n) ev se lc), r3)) : AMet mX0_show 3 0 0 [.ref 1, .int (nI j), .int (nI x)] (r0, (xC (.ref 2) iv tP tL tA tK tC tS tH tN tE tZ tf mP mf eP eT eF ef eg ew rx gx wx hv tp td rf rc ic), (wC th pf nl ag lk co sh hs (nI n) ev se lc), r3) Q := by
  refine AMet.ofRch rfl rfl (Nat.le_of_ble_eq_true rfl) ?_
  have hx1 : ¬ nI x = -1 := by
    intro z
    have := congrArg Int32.toInt z
    rw [nI_toInt (by omega)] at this
    have e1 : (-1 : Int32).toInt = -1 := by decide
    omega
  have hbr : b2i (inB (nI x) 0 (nI n - 1)) ≠ 0 := b2i_n.mpr (inB_mI hx (by omega))
  refine r_iload_n dX0_show_0 rfl ?_
  refine r_callS (as := [_]) okX0_isShelf q375 dX0_show_1 (Nat.le_of_ble_eq_true rfl) rfl (Nat.le_of_ble_eq_true rfl) (Nat.le_of_ble_eq_true rfl) (Nat.le_of_ble_eq_true rfl) (pX0_isShelf ?_)
  refine r_if_eq 23 dX0_show_4 (by decide) (fun c_ => absurd c_ (in8 hj)) (fun _ => ?_)
  refine r_iload_n dX0_show_7 rfl ?_
  refine r_iconst (-1) dX0_show_8 (by decide) ?_
  refine r_icmp_eq 30 dX0_show_9 (by decide) (fun c_ => absurd c_ (hx1)) (fun _ => ?_)
  refine r_aload_n dX0_show_12 rfl ?_
  refine r_get bX0 0 (by decide) q246 dX0_show_13 rfl rfl ?_
  refine r_iload_n dX0_show_16 rfl ?_
  refine r_callV (as := [_]) okX1_isLooker bX1 rfl rfl q519 dX0_show_17 (Nat.le_of_ble_eq_true rfl) rfl (Nat.le_of_ble_eq_true rfl) (Nat.le_of_ble_eq_true rfl) (Nat.le_of_ble_eq_true rfl) (pX1_isLooker rfl ?_)
  refine r_if_ne 30 dX0_show_20 (by decide) (fun _ => ?_) (fun c_ => absurd c_ (hbr))
  refine r_aload_n dX0_show_30 rfl ?_
  refine r_get bX0 8 (by decide) q254 dX0_show_31 rfl rfl ?_
  refine r_iload_n dX0_show_34 rfl ?_
  refine r_aald_sheet dX0_show_35 rfl (vp_in_nI (by omega) (by omega)) ?_
  rw [nI_clamp (by omega)]
  refine r_iload_n dX0_show_36 rfl ?_
  refine r_iconst (-1) dX0_show_37 (by decide) ?_
  refine r_icmp_ne 45 dX0_show_38 (by decide) (fun _ => ?_) (fun c_ => absurd c_ (hx1))
  refine r_aload_n dX0_show_45 rfl ?_
  refine r_get bX0 0 (by decide) q246 dX0_show_46 rfl rfl ?_
  refine r_get bX1 1 (by decide) q163 dX0_show_49 rfl rfl ?_
  refine r_iload_n dX0_show_52 rfl ?_
  refine r_aald_looker dX0_show_53 rfl (vp_in_nI (by omega) (by omega)) ?_
  rw [nI_clamp (by omega), hnl]
  refine r_put bX4 0 (by decide) rfl q242 dX0_show_54 rfl rfl (sh_at hj) (Nat.le_of_ble_eq_true rfl) ?_
  show Rch _ _ _ _ _ _ (aSet _ _ (.inr (4, [.ref y])))
  rw [sh_set hj]
  refine r_iconst 1 dX0_show_57 (by decide) ?_
  exact r_iret dX0_show_58 rfl (Nat.le_of_ble_eq_true rfl) (Nat.le_of_ble_eq_true rfl) (hQ)
/-- a shelf's thing as a new window (its lookers f, n of them) finds it, and as it leaves it -/
def BeH (H : (Nat → Value) → AHp) (f : Nat → Option Nat) (n : Nat) (v v' : Value) : Prop :=
  (v = .null ∧ v' = .null) ∨ (∃ (a k m : Nat) (g : Nat → Int64), v = .ref a ∧ v' = .ref a ∧ ∀ hv, aGet (H hv) a = some (rwC k m g)) ∨
    ∃ (a c x : Nat) (w : Int32), v = .ref a ∧ c < 6 ∧ x < 8 ∧ (∀ hv, aGet (H hv) a = some (.inr (7 + c, [.int (nI x), .int w]))) ∧ ((x < n ∧ ∃ y, f x = some y ∧ v' = .ref y) ∨ (n ≤ x ∧ v' = .null))
def beF (hv nv : Nat → Value) (k : Nat) : Nat → Value := fun j => if j < k then nv j else hv j
theorem beF_at {hv nv : Nat → Value} {k : Nat} : beF hv nv k k = hv k := if_neg (by omega)
theorem beF_up {hv nv : Nat → Value} {k : Nat} : va_up (beF hv nv k) k (nv k) = beF hv nv (k + 1) := by
  funext j
  show (if j = k then nv k else if j < k then nv j else hv j) = if j < k + 1 then nv j else hv j
  by_cases e : j = k
  · rw [if_pos e, if_pos (by omega), e]
  · rw [if_neg e]
    by_cases e2 : j < k
    · rw [if_pos e2, if_pos (by omega)]
    · rw [if_neg e2, if_neg (by omega)]
theorem beF_0 {hv nv : Nat → Value} : beF hv nv 0 = hv := by
  funext j
  exact if_neg (by omega)
theorem beF_id {hv nv : Nat → Value} {k : Nat} (h : nv k = hv k) : beF hv nv k = beF hv nv (k + 1) := by
  funext j
  show (if j < k then nv j else hv j) = if j < k + 1 then nv j else hv j
  by_cases e2 : j < k
  · rw [if_pos e2, if_pos (by omega)]
  · rw [if_neg e2]
    by_cases e3 : j < k + 1
    · rw [if_pos e3, show j = k by omega, h]
    · rw [if_neg e3]
theorem pX0_becomes {h2 : List AC} {nw : Value} {w la n' : Nat} {f : Nat → Option Nat} {nv : Nat → Value} {w0 w2 w3 w4 w5 w6 w8 w9 : Value} (hn : n' ≤ 8) (hW : ∀ hv, aGet (r0, (xC (.ref w) iv tP tL tA tK tC tS tH tN tE tZ tf mP mf eP eT eF ef eg ew rx gx wx (hv) tp td rf rc ic), h2, r3) w = some (.inr (1, [w0, .ref la, w2, w3, w4, w5, w6, .int (nI n'), w8, w9]))) (hA : ∀ hv, aGet (r0, (xC (.ref w) iv tP tL tA tK tC tS tH tN tE tZ tf mP mf eP eT eF ef eg ew rx gx wx (hv) tp td rf rc ic), h2, r3) la = some (.inl (.object "SeenInOrderOfAge$Looker", 8, .inr (.inr (.inr (.inr f)))))) (hB : ∀ j, j < 8 → BeH (fun hv => (r0, (xC (.ref w) iv tP tL tA tK tC tS tH tN tE tZ tf mP mf eP eT eF ef eg ew rx gx wx (hv) tp td rf rc ic), h2, r3)) f n' (hv j) (nv j)) (hQ : Q none (r0, (xC (.ref w) iv tP tL tA tK tC tS tH tN tE tZ tf mP mf eP eT eF ef eg ew rx gx wx (beF hv nv 8) tp td rf rc ic), h2, r3)) : AMet mX0_becomes 3 0 0 [.ref 1, .ref w] (r0, (xC (nw) iv tP tL tA tK tC tS tH tN tE tZ tf mP mf eP eT eF ef eg ew rx gx wx hv tp td rf rc ic), h2, r3) Q := by
  refine AMet.ofRch rfl rfl (Nat.le_of_ble_eq_true rfl) ?_
  refine r_aload_n dX0_becomes_0 rfl ?_
  refine r_aload_n dX0_becomes_1 rfl ?_
  refine r_put bX0 0 (by decide) rfl q246 dX0_becomes_2 rfl rfl rfl (Nat.le_of_ble_eq_true rfl) ?_
  refine r_iconst 0 dX0_becomes_5 (by decide) ?_
  refine r_istore_n dX0_becomes_6 (Nat.le_of_ble_eq_true rfl) ?_
  refine eqP (P := fun z => Rch (mX0_becomes, 3, 0, 0, oQ Q) 0 0 7 [some (.ref 1), some (.ref w), some (.int (nI 0)), none] [] (r0, (xC (.ref w) iv tP tL tA tK tC tS tH tN tE tZ tf mP mf eP eT eF ef eg ew rx gx wx (z) tp td rf rc ic), h2, r3)) (beF_0 (nv := nv)) ?_
  refine loopUp (N := 8) (P := fun k => ∀ z3, Rch (mX0_becomes, 3, 0, 0, oQ Q) 0 0 7 [some (.ref 1), some (.ref w), some (.int (nI k)), z3] [] (r0, (xC (.ref w) iv tP tL tA tK tC tS tH tN tE tZ tf mP mf eP eT eF ef eg ew rx gx wx (beF hv nv k) tp td rf rc ic), h2, r3)) ?_ ?_ none
  · intro z3
    refine r_iload_n dX0_becomes_7 rfl ?_
    refine r_bipush 8 dX0_becomes_8 (by decide) ?_
    refine r_icmp_ge 83 dX0_becomes_10 (by decide) (fun _ => ?_) (fun c_ => absurd (geT 8) c_)
    exact r_vret dX0_becomes_83 rfl (Nat.le_of_ble_eq_true rfl) (Nat.le_of_ble_eq_true rfl) (hQ)
  · intro k hk ih z3
    have e0 : beF hv nv k k = hv k := beF_at
    rcases hB k hk with ⟨e1, e2⟩ | ⟨a, kk, m, g, e1, e2, hg⟩ | ⟨a, c, x, ww, e1, hc, hx, hg, hv'⟩
    · have e3 : beF hv nv k = beF hv nv (k + 1) := beF_id (by rw [e1, e2])
      refine r_iload_n dX0_becomes_7 rfl ?_
      refine r_bipush 8 dX0_becomes_8 (by decide) ?_
      refine r_icmp_ge 83 dX0_becomes_10 (by decide) (fun c_ => absurd c_ (geF hk (by decide))) (fun _ => ?_)
      refine r_aload_n dX0_becomes_13 rfl ?_
      refine r_get bX0 8 (by decide) q254 dX0_becomes_14 rfl rfl ?_
      refine r_iload_n dX0_becomes_17 rfl ?_
      refine r_aald_sheet dX0_becomes_18 rfl (vp_in_nI (by omega) (by omega)) ?_
      rw [nI_clamp (by omega)]
      refine r_get bX4 0 (by decide) q242 dX0_becomes_19 (sh_at hk) rfl ?_
      rw [e0, e1]
      refine r_inst0 dX0_becomes_22 ?_
      refine r_if_eq 77 dX0_becomes_25 (by decide) (fun _ => ?_) (fun c_ => absurd (rfl) c_)
      refine r_iincV dX0_becomes_77 rfl (Nat.le_of_ble_eq_true rfl) (incN _) ?_
      refine r_goto 7 dX0_becomes_80 (by decide) ?_
      rw [e3]
      exact ih _
    · have e3 : beF hv nv k = beF hv nv (k + 1) := beF_id (by rw [e1, e2])
      refine r_iload_n dX0_becomes_7 rfl ?_
      refine r_bipush 8 dX0_becomes_8 (by decide) ?_
      refine r_icmp_ge 83 dX0_becomes_10 (by decide) (fun c_ => absurd c_ (geF hk (by decide))) (fun _ => ?_)
      refine r_aload_n dX0_becomes_13 rfl ?_
      refine r_get bX0 8 (by decide) q254 dX0_becomes_14 rfl rfl ?_
      refine r_iload_n dX0_becomes_17 rfl ?_
      refine r_aald_sheet dX0_becomes_18 rfl (vp_in_nI (by omega) (by omega)) ?_
      rw [nI_clamp (by omega)]
      refine r_get bX4 0 (by decide) q242 dX0_becomes_19 (sh_at hk) rfl ?_
      rw [e0, e1]
      refine r_instNo (isA_row kk (hg _)) (nc_row kk) q419 dX0_becomes_22 ?_
      refine r_if_eq 77 dX0_becomes_25 (by decide) (fun _ => ?_) (fun c_ => absurd (rfl) c_)
      refine r_iincV dX0_becomes_77 rfl (Nat.le_of_ble_eq_true rfl) (incN _) ?_
      refine r_goto 7 dX0_becomes_80 (by decide) ?_
      rw [e3]
      exact ih _
    · rcases hv' with ⟨hxn, y, ey, ev⟩ | ⟨hxn, ev⟩
      · have e3 : va_up (beF hv nv k) k (.ref y) = beF hv nv (k + 1) := by rw [← ev]; exact beF_up
        have hbr : ¬ b2i (inB (nI x) 0 (nI n' - 1)) = 0 := b2i_n.mpr (inB_mI hxn (by omega))
        refine r_iload_n dX0_becomes_7 rfl ?_
        refine r_bipush 8 dX0_becomes_8 (by decide) ?_
        refine r_icmp_ge 83 dX0_becomes_10 (by decide) (fun c_ => absurd c_ (geF hk (by decide))) (fun _ => ?_)
        refine r_aload_n dX0_becomes_13 rfl ?_
        refine r_get bX0 8 (by decide) q254 dX0_becomes_14 rfl rfl ?_
        refine r_iload_n dX0_becomes_17 rfl ?_
        refine r_aald_sheet dX0_becomes_18 rfl (vp_in_nI (by omega) (by omega)) ?_
        rw [nI_clamp (by omega)]
        refine r_get bX4 0 (by decide) q242 dX0_becomes_19 (sh_at hk) rfl ?_
        rw [e0, e1]
        refine r_inst_lk hc (hg _) q419 dX0_becomes_22 ?_
        refine r_if_eq 77 dX0_becomes_25 (by decide) (fun c_ => absurd c_ (by decide)) (fun _ => ?_)
        refine r_aload_n dX0_becomes_28 rfl ?_
        refine r_get bX0 8 (by decide) q254 dX0_becomes_29 rfl rfl ?_
        refine r_iload_n dX0_becomes_32 rfl ?_
        refine r_aald_sheet dX0_becomes_33 rfl (vp_in_nI (by omega) (by omega)) ?_
        rw [nI_clamp (by omega)]
        refine r_get bX4 0 (by decide) q242 dX0_becomes_34 (sh_at hk) rfl ?_
        rw [e0, e1]
        refine r_cast_lk hc (hg _) q419 dX0_becomes_37 ?_
        refine r_lkN q674 dX0_becomes_40 hc (hg _) ?_
        refine r_istore_n dX0_becomes_43 (Nat.le_of_ble_eq_true rfl) ?_
        refine r_aload_n dX0_becomes_44 rfl ?_
        refine r_get bX0 8 (by decide) q254 dX0_becomes_45 rfl rfl ?_
        refine r_iload_n dX0_becomes_48 rfl ?_
        refine r_aald_sheet dX0_becomes_49 rfl (vp_in_nI (by omega) (by omega)) ?_
        rw [nI_clamp (by omega)]
        refine r_aload_n dX0_becomes_50 rfl ?_
        refine r_get bX0 0 (by decide) q246 dX0_becomes_51 rfl rfl ?_
        refine r_iload_n dX0_becomes_54 rfl ?_
        refine r_callV (as := [_]) okX1_isLooker bX1 rfl (hW _) q519 dX0_becomes_55 (Nat.le_of_ble_eq_true rfl) rfl (Nat.le_of_ble_eq_true rfl) (Nat.le_of_ble_eq_true rfl) (Nat.le_of_ble_eq_true rfl) (pX1_isLooker (hW _) ?_)
        refine r_if_eq 73 dX0_becomes_58 (by decide) (fun c_ => absurd c_ (hbr)) (fun _ => ?_)
        refine r_aload_n dX0_becomes_61 rfl ?_
        refine r_get bX0 0 (by decide) q246 dX0_becomes_62 rfl rfl ?_
        refine r_get bX1 1 (by decide) q163 dX0_becomes_65 (hW _) rfl ?_
        refine r_iload_n dX0_becomes_68 rfl ?_
        refine r_aald_looker dX0_becomes_69 (hA _) (vp_in_nI (by omega) (by omega)) ?_
        rw [nI_clamp (by omega), ey]
        refine r_goto 74 dX0_becomes_70 (by decide) ?_
        refine r_put bX4 0 (by decide) rfl q242 dX0_becomes_74 rfl rfl (sh_at hk) (Nat.le_of_ble_eq_true rfl) ?_
        show Rch _ _ _ _ _ _ (aSet _ _ (.inr (4, [.ref y])))
        rw [sh_set hk, e3]
        refine r_iincV dX0_becomes_77 rfl (Nat.le_of_ble_eq_true rfl) (incN _) ?_
        refine r_goto 7 dX0_becomes_80 (by decide) ?_
        exact ih _
      · have e3 : va_up (beF hv nv k) k .null = beF hv nv (k + 1) := by rw [← ev]; exact beF_up
        have hbr : b2i (inB (nI x) 0 (nI n' - 1)) = 0 := b2i_0.mpr (inB_mF (by omega) hxn)
        refine r_iload_n dX0_becomes_7 rfl ?_
        refine r_bipush 8 dX0_becomes_8 (by decide) ?_
        refine r_icmp_ge 83 dX0_becomes_10 (by decide) (fun c_ => absurd c_ (geF hk (by decide))) (fun _ => ?_)
        refine r_aload_n dX0_becomes_13 rfl ?_
        refine r_get bX0 8 (by decide) q254 dX0_becomes_14 rfl rfl ?_
        refine r_iload_n dX0_becomes_17 rfl ?_
        refine r_aald_sheet dX0_becomes_18 rfl (vp_in_nI (by omega) (by omega)) ?_
        rw [nI_clamp (by omega)]
        refine r_get bX4 0 (by decide) q242 dX0_becomes_19 (sh_at hk) rfl ?_
        rw [e0, e1]
        refine r_inst_lk hc (hg _) q419 dX0_becomes_22 ?_
        refine r_if_eq 77 dX0_becomes_25 (by decide) (fun c_ => absurd c_ (by decide)) (fun _ => ?_)
        refine r_aload_n dX0_becomes_28 rfl ?_
        refine r_get bX0 8 (by decide) q254 dX0_becomes_29 rfl rfl ?_
        refine r_iload_n dX0_becomes_32 rfl ?_
        refine r_aald_sheet dX0_becomes_33 rfl (vp_in_nI (by omega) (by omega)) ?_
        rw [nI_clamp (by omega)]
        refine r_get bX4 0 (by decide) q242 dX0_becomes_34 (sh_at hk) rfl ?_
        rw [e0, e1]
        refine r_cast_lk hc (hg _) q419 dX0_becomes_37 ?_
        refine r_lkN q674 dX0_becomes_40 hc (hg _) ?_
        refine r_istore_n dX0_becomes_43 (Nat.le_of_ble_eq_true rfl) ?_
        refine r_aload_n dX0_becomes_44 rfl ?_
        refine r_get bX0 8 (by decide) q254 dX0_becomes_45 rfl rfl ?_
        refine r_iload_n dX0_becomes_48 rfl ?_
        refine r_aald_sheet dX0_becomes_49 rfl (vp_in_nI (by omega) (by omega)) ?_
        rw [nI_clamp (by omega)]
        refine r_aload_n dX0_becomes_50 rfl ?_
        refine r_get bX0 0 (by decide) q246 dX0_becomes_51 rfl rfl ?_
        refine r_iload_n dX0_becomes_54 rfl ?_
        refine r_callV (as := [_]) okX1_isLooker bX1 rfl (hW _) q519 dX0_becomes_55 (Nat.le_of_ble_eq_true rfl) rfl (Nat.le_of_ble_eq_true rfl) (Nat.le_of_ble_eq_true rfl) (Nat.le_of_ble_eq_true rfl) (pX1_isLooker (hW _) ?_)
        refine r_if_eq 73 dX0_becomes_58 (by decide) (fun _ => ?_) (fun c_ => absurd (hbr) c_)
        refine r_null dX0_becomes_73 ?_
        refine r_put bX4 0 (by decide) rfl q242 dX0_becomes_74 rfl rfl (sh_at hk) (Nat.le_of_ble_eq_true rfl) ?_
        show Rch _ _ _ _ _ _ (aSet _ _ (.inr (4, [.null])))
        rw [sh_set hk, e3]
        refine r_iincV dX0_becomes_77 rfl (Nat.le_of_ble_eq_true rfl) (incN _) ?_
        refine r_goto 7 dX0_becomes_80 (by decide) ?_
        exact ih _
end XX
