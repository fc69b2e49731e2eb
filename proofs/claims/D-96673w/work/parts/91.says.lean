set_option maxRecDepth 100000
/-! the component: says -/
def clQ (q : Nat) : String := match q with
  | 0 => "SeenInOrderOfAge$Looker"
  | 1 => "SeenInOrderOfAge$Child"
  | 2 => "SeenInOrderOfAge$Old"
  | 3 => "SeenInOrderOfAge$Greedy"
  | 4 => "SeenInOrderOfAge$Giver"
  | _ => "SeenInOrderOfAge$Shy"
theorem clQ_ok (q : Nat) : CnOk (clQ q) := by
  match q with
  | 0 => exact ⟨by decide +kernel, by decide +kernel⟩
  | 1 => exact ⟨by decide +kernel, by decide +kernel⟩
  | 2 => exact ⟨by decide +kernel, by decide +kernel⟩
  | 3 => exact ⟨by decide +kernel, by decide +kernel⟩
  | 4 => exact ⟨by decide +kernel, by decide +kernel⟩
  | q + 5 => exact (⟨by decide +kernel, by decide +kernel⟩ : CnOk "SeenInOrderOfAge$Shy")
theorem nmK_ok (k : Nat) : CnOk (nmK k) := by
  match k with
  | 0 => exact ⟨by decide +kernel, by decide +kernel⟩
  | 1 => exact ⟨by decide +kernel, by decide +kernel⟩
  | 2 => exact ⟨by decide +kernel, by decide +kernel⟩
  | 3 => exact ⟨by decide +kernel, by decide +kernel⟩
  | k + 4 => exact (⟨by decide +kernel, by decide +kernel⟩ : CnOk "[Z")
theorem ncK_0 (k : Nat) : NC (nmK k) (clQ 0) := by
  match k with
  | 0 => exact nc_AB_Looker
  | 1 => exact nc_AS_Looker
  | 2 => exact nc_AI_Looker
  | 3 => exact nc_AJ_Looker
  | k + 4 => exact nc_AZ_Looker
theorem ncK_1 (k : Nat) : NC (nmK k) (clQ 1) := by
  match k with
  | 0 => exact nc_AB_Child
  | 1 => exact nc_AS_Child
  | 2 => exact nc_AI_Child
  | 3 => exact nc_AJ_Child
  | k + 4 => exact nc_AZ_Child
theorem ncK_2 (k : Nat) : NC (nmK k) (clQ 2) := by
  match k with
  | 0 => exact nc_AB_Old
  | 1 => exact nc_AS_Old
  | 2 => exact nc_AI_Old
  | 3 => exact nc_AJ_Old
  | k + 4 => exact nc_AZ_Old
theorem ncK_3 (k : Nat) : NC (nmK k) (clQ 3) := by
  match k with
  | 0 => exact nc_AB_Greedy
  | 1 => exact nc_AS_Greedy
  | 2 => exact nc_AI_Greedy
  | 3 => exact nc_AJ_Greedy
  | k + 4 => exact nc_AZ_Greedy
theorem ncK_4 (k : Nat) : NC (nmK k) (clQ 4) := by
  match k with
  | 0 => exact nc_AB_Giver
  | 1 => exact nc_AS_Giver
  | 2 => exact nc_AI_Giver
  | 3 => exact nc_AJ_Giver
  | k + 4 => exact nc_AZ_Giver
theorem ncK_5 (k : Nat) : NC (nmK k) (clQ 5) := by
  match k with
  | 0 => exact nc_AB_Shy
  | 1 => exact nc_AS_Shy
  | 2 => exact nc_AI_Shy
  | 3 => exact nc_AJ_Shy
  | k + 4 => exact nc_AZ_Shy
section XX
variable {iv : Value} {tP : Nat → Int32} {tL : Nat → Option Nat} {tA tK tC tS tH : Nat → Int32} {tN tE tZ tf : Int32} {mP : Nat → Int32} {mf : Int32} {eP eT eF : Nat → Int32} {ef eg : Int32} {ew : Value} {rx gx wx : Nat → Int32} {hv : Nat → Value} {tp : Nat → Int32} {td : Int32} {rf : Nat → Int32} {rc ic : Nat → AC} {th : Nat → Int32} {pf : Int32} {nl : Nat → Option Nat} {ag lk co sh hs : Nat → Int32} {my ev se : Int32} {lc : Nat → AC} {r0 r3 : List AC} {Q : Option Value → AHp → Prop} {n : Nat} {kN : Nat → Nat} {ow : Nat → Int32}
theorem pX0_alone {a c x : Nat} {w : Int32} (hn : n ≤ 8) (hL : LkI lc r3 nl kN ow n) (hP : ThI th) (hx : x < 8) (hc : c < 6) (hg : ∀ x1, aGet (r0, x1, (wC th pf nl ag lk co sh hs (nI n) ev se lc), r3) a = some (.inr (7 + c, [.int (nI x), .int w]))) (hQ : ∀ (eP eT eF : Nat → Int32) (ef eg : Int32) (ew : Value), Q (some (.int ((evR kN ow lk ag n th (1 <<< (nI x &&& 31))).2.1 x))) (r0, (xC (.ref 2) iv tP tL tA tK tC tS tH tN tE tZ tf mP mf eP eT eF ef eg ew rx gx wx hv tp td rf rc ic), (wC th pf nl ag lk co sh hs (nI n) ev se lc), r3)) : AMet mX0_alone 10 0 0 [.ref 1, .ref a] (r0, (xC (.ref 2) iv tP tL tA tK tC tS tH tN tE tZ tf mP mf eP eT eF ef eg ew rx gx wx hv tp td rf rc ic), (wC th pf nl ag lk co sh hs (nI n) ev se lc), r3) Q := by
  refine AMet.ofRch rfl rfl (Nat.le_of_ble_eq_true rfl) ?_
  refine r_aload_n dX0_alone_0 rfl ?_
  refine r_get bX0 4 (by decide) q250 dX0_alone_1 rfl rfl ?_
  refine r_aload_n dX0_alone_4 rfl ?_
  refine r_get bX0 0 (by decide) q246 dX0_alone_5 rfl rfl ?_
  refine r_iconst 1 dX0_alone_8 (by decide) ?_
  refine r_aload_n dX0_alone_9 rfl ?_
  refine r_lkN q674 dX0_alone_10 hc (hg _) ?_
  refine r_ishl dX0_alone_13 ?_
  refine r_callV (as := [_, _]) okX3_of bX3 rfl rfl q547 dX0_alone_14 (Nat.le_of_ble_eq_true rfl) rfl (Nat.le_of_ble_eq_true rfl) (Nat.le_of_ble_eq_true rfl) (Nat.le_of_ble_eq_true rfl) (pX3_of_n hn hL hP (fun ef2 => ?_))
  refine r_get bX3 1 (by decide) q218 dX0_alone_17 rfl rfl ?_
  refine r_aload_n dX0_alone_20 rfl ?_
  refine r_lkN q674 dX0_alone_21 hc (hg _) ?_
  refine r_ialdN dX0_alone_24 rfl (by omega) (Nat.le_of_ble_eq_true rfl) ?_
  exact r_iret dX0_alone_25 rfl (Nat.le_of_ble_eq_true rfl) (Nat.le_of_ble_eq_true rfl) (hQ _ _ _ _ _ _)
theorem pX0_says_bad {h2 : List AC} {s k : Int32} {Q : OC → AHp → Prop} (hb : (inB s 0 7 && inB k 0 5) = false) (hQ : ∀ r3, Q (.inl (some (.int (-2)))) (r0, (xC (.ref 2) iv tP tL tA tK tC tS tH tN tE tZ tf mP mf eP eT eF ef eg ew rx gx wx hv tp td (upd rf 2 (rf 2 + 1)) rc ic), h2, r3)) : AMetX mX0_says 11 3 1450 [.ref 1, .int s, .int k] (r0, (xC (.ref 2) iv tP tL tA tK tC tS tH tN tE tZ tf mP mf eP eT eF ef eg ew rx gx wx hv tp td rf rc ic), h2, r3) Q := by
  refine AMetX.ofRch rfl (Nat.le_of_ble_eq_true rfl) ?_
  refine r_iload_n dX0_says_0 rfl ?_
  refine r_callS (as := [_]) okX0_isShelf q375 dX0_says_1 (Nat.le_of_ble_eq_true rfl) rfl (Nat.le_of_ble_eq_true rfl) (Nat.le_of_ble_eq_true rfl) (Nat.le_of_ble_eq_true rfl) (pX0_isShelf ?_)
  refine r_if_eq 16 dX0_says_4 (by decide) (fun c_4 => ?_) (fun c_4 => ?_)
  · refine r_aload_n dX0_says_16 rfl ?_
    refine r_bipush (-2) dX0_says_17 (by decide) ?_
    refine r_callV (as := [_]) okX0_no bX0 rfl rfl q381 dX0_says_19 (Nat.le_of_ble_eq_true rfl) rfl (Nat.le_of_ble_eq_true rfl) (Nat.le_of_ble_eq_true rfl) (Nat.le_of_ble_eq_true rfl) (pX0_no 2 (by decide) (by decide) ?_)
    exact r_iret dX0_says_22 rfl (Nat.le_of_ble_eq_true rfl) (Nat.le_of_ble_eq_true rfl) (hQ _)
  · refine r_iload_n dX0_says_7 rfl ?_
    refine r_iconst 0 dX0_says_8 (by decide) ?_
    refine r_iconst 5 dX0_says_9 (by decide) ?_
    refine r_callS (as := [_, _, _]) okX0_isIn q378 dX0_says_10 (Nat.le_of_ble_eq_true rfl) rfl (Nat.le_of_ble_eq_true rfl) (Nat.le_of_ble_eq_true rfl) (Nat.le_of_ble_eq_true rfl) (pX0_isIn ?_)
    refine r_if_ne 23 dX0_says_13 (by decide) (fun c_13 => ?_) (fun c_13 => ?_)
    · exfalso
      rw [b2i_n.mp c_4, b2i_n.mp c_13] at hb
      cases hb
    · refine r_aload_n dX0_says_16 rfl ?_
      refine r_bipush (-2) dX0_says_17 (by decide) ?_
      refine r_callV (as := [_]) okX0_no bX0 rfl rfl q381 dX0_says_19 (Nat.le_of_ble_eq_true rfl) rfl (Nat.le_of_ble_eq_true rfl) (Nat.le_of_ble_eq_true rfl) (Nat.le_of_ble_eq_true rfl) (pX0_no 2 (by decide) (by decide) ?_)
      exact r_iret dX0_says_22 rfl (Nat.le_of_ble_eq_true rfl) (Nat.le_of_ble_eq_true rfl) (hQ _)
theorem in5 {q : Nat} (hq : q < 6) : ¬ b2i (inB (nI q) 0 5) = 0 := b2i_n.mpr (inB_nI (N := 5) (by omega) (by decide))
theorem pX0_says_0 {h2 : List AC} {j : Nat} {Q : OC → AHp → Prop} {q : Nat} (hj : j < 8) (hq : q < 6) (e1 : hv j = .null) (hQ : ∀ r3, Q (.inl (some (.int (-4)))) (r0, (xC (.ref 2) iv tP tL tA tK tC tS tH tN tE tZ tf mP mf eP eT eF ef eg ew rx gx wx hv tp td (upd rf 4 (rf 4 + 1)) rc ic), h2, r3)) : AMetX mX0_says 11 3 1450 [.ref 1, .int (nI j), .int (nI q)] (r0, (xC (.ref 2) iv tP tL tA tK tC tS tH tN tE tZ tf mP mf eP eT eF ef eg ew rx gx wx hv tp td rf rc ic), h2, r3) Q := by
  refine AMetX.ofRch rfl (Nat.le_of_ble_eq_true rfl) ?_
  refine r_iload_n dX0_says_0 rfl ?_
  refine r_callS (as := [_]) okX0_isShelf q375 dX0_says_1 (Nat.le_of_ble_eq_true rfl) rfl (Nat.le_of_ble_eq_true rfl) (Nat.le_of_ble_eq_true rfl) (Nat.le_of_ble_eq_true rfl) (pX0_isShelf ?_)
  refine r_if_eq 16 dX0_says_4 (by decide) (fun c_ => absurd c_ (in8 hj)) (fun _ => ?_)
  refine r_iload_n dX0_says_7 rfl ?_
  refine r_iconst 0 dX0_says_8 (by decide) ?_
  refine r_iconst 5 dX0_says_9 (by decide) ?_
  refine r_callS (as := [_, _, _]) okX0_isIn q378 dX0_says_10 (Nat.le_of_ble_eq_true rfl) rfl (Nat.le_of_ble_eq_true rfl) (Nat.le_of_ble_eq_true rfl) (Nat.le_of_ble_eq_true rfl) (pX0_isIn ?_)
  refine r_if_ne 23 dX0_says_13 (by decide) (fun _ => ?_) (fun c_ => absurd c_ (in5 hq))
  refine r_aload_n dX0_says_23 rfl ?_
  refine r_get bX0 8 (by decide) q254 dX0_says_24 rfl rfl ?_
  refine r_iload_n dX0_says_27 rfl ?_
  refine r_aald_sheet dX0_says_28 rfl (vp_in_nI (by omega) (by omega)) ?_
  rw [nI_clamp (by omega)]
  refine r_get bX4 0 (by decide) q242 dX0_says_29 (sh_at hj) rfl ?_
  rw [e1]
  refine r_astore_nN dX0_says_32 (Nat.le_of_ble_eq_true rfl) ?_
  refine r_aload_nN dX0_says_33 rfl ?_
  refine r_ifnonnullN dX0_says_34 ?_
  refine r_aload_n dX0_says_37 rfl ?_
  refine r_bipush (-4) dX0_says_38 (by decide) ?_
  refine r_callV (as := [_]) okX0_no bX0 rfl rfl q381 dX0_says_40 (Nat.le_of_ble_eq_true rfl) rfl (Nat.le_of_ble_eq_true rfl) (Nat.le_of_ble_eq_true rfl) (Nat.le_of_ble_eq_true rfl) (pX0_no 4 (by decide) (by decide) ?_)
  exact r_iret dX0_says_43 rfl (Nat.le_of_ble_eq_true rfl) (Nat.le_of_ble_eq_true rfl) (hQ _)
theorem pX0_says_r {j : Nat} {Q : OC → AHp → Prop} {a k m q : Nat} {f : Nat → Int64} (hj : j < 8) (hq : q < 6) (e1 : hv j = .ref a) (hg : aGet (r0, (xC (.ref 2) iv tP tL tA tK tC tS tH tN tE tZ tf mP mf eP eT eF ef eg ew rx gx wx hv tp td rf rc ic), (wC th pf nl ag lk co sh hs my ev se lc), r3) a = some (rwC k m f)) (hQ : ∀ r3, Q (.inl (some (.int (-3)))) (r0, (xC (.ref 2) iv tP tL tA tK tC tS tH tN tE tZ tf mP mf eP eT eF ef eg ew rx gx wx hv tp td (upd rf 3 (rf 3 + 1)) rc ic), (wC th pf nl ag lk co sh hs my ev se lc), r3)) : AMetX mX0_says 11 3 1450 [.ref 1, .int (nI j), .int (nI q)] (r0, (xC (.ref 2) iv tP tL tA tK tC tS tH tN tE tZ tf mP mf eP eT eF ef eg ew rx gx wx hv tp td rf rc ic), (wC th pf nl ag lk co sh hs my ev se lc), r3) Q := by
  refine AMetX.ofRch rfl (Nat.le_of_ble_eq_true rfl) ?_
  rcases (show q = 0 ∨ q = 1 ∨ q = 2 ∨ q = 3 ∨ q = 4 ∨ q = 5 by omega) with rfl | rfl | rfl | rfl | rfl | rfl
  · refine r_iload_n dX0_says_0 rfl ?_
    refine r_callS (as := [_]) okX0_isShelf q375 dX0_says_1 (Nat.le_of_ble_eq_true rfl) rfl (Nat.le_of_ble_eq_true rfl) (Nat.le_of_ble_eq_true rfl) (Nat.le_of_ble_eq_true rfl) (pX0_isShelf ?_)
    refine r_if_eq 16 dX0_says_4 (by decide) (fun c_ => absurd c_ (in8 hj)) (fun _ => ?_)
    refine r_iload_n dX0_says_7 rfl ?_
    refine r_iconst 0 dX0_says_8 (by decide) ?_
    refine r_iconst 5 dX0_says_9 (by decide) ?_
    refine r_callS (as := [_, _, _]) okX0_isIn q378 dX0_says_10 (Nat.le_of_ble_eq_true rfl) rfl (Nat.le_of_ble_eq_true rfl) (Nat.le_of_ble_eq_true rfl) (Nat.le_of_ble_eq_true rfl) (pX0_isIn ?_)
    refine r_if_ne 23 dX0_says_13 (by decide) (fun _ => ?_) (fun c_ => absurd c_ (in5 hq))
    refine r_aload_n dX0_says_23 rfl ?_
    refine r_get bX0 8 (by decide) q254 dX0_says_24 rfl rfl ?_
    refine r_iload_n dX0_says_27 rfl ?_
    refine r_aald_sheet dX0_says_28 rfl (vp_in_nI (by omega) (by omega)) ?_
    rw [nI_clamp (by omega)]
    refine r_get bX4 0 (by decide) q242 dX0_says_29 (sh_at hj) rfl ?_
    rw [e1]
    refine r_astore_n dX0_says_32 (Nat.le_of_ble_eq_true rfl) ?_
    refine r_aload_n dX0_says_33 rfl ?_
    refine r_ifnonnull 44 dX0_says_34 (by decide) ?_
    refine r_iload_n dX0_says_44 rfl ?_
    refine r_tableIn 80 dX0_says_45 (by decide) (by decide) rfl (by decide) ?_
    refine r_aload_n dX0_says_80 rfl ?_
    refine r_get bX0 0 (by decide) q246 dX0_says_81 rfl rfl ?_
    refine r_get bX1 2 (by decide) q165 dX0_says_84 rfl rfl ?_
    refine r_aload_n dX0_says_87 rfl ?_
    refine r_castNo (isA_row k hg) (ncK_0 k) (nmK_ok k) (clQ_ok 0) q419 dX0_says_88 (Nat.le_of_ble_eq_true rfl) (Nat.le_of_ble_eq_true rfl) (Nat.le_of_ble_eq_true rfl) (rt_catch (hp := 141) (fun G hG => srY (by decide) (by decide) q528 q540) ?_)
    refine r_astore dX0_says_141 (Nat.le_of_ble_eq_true rfl) ?_
    refine r_aload_n dX0_says_143 rfl ?_
    refine r_bipush (-3) dX0_says_144 (by decide) ?_
    refine r_callV (as := [_]) okX0_no bX0 rfl rfl q381 dX0_says_146 (Nat.le_of_ble_eq_true rfl) rfl (Nat.le_of_ble_eq_true rfl) (Nat.le_of_ble_eq_true rfl) (Nat.le_of_ble_eq_true rfl) (pX0_no 3 (by decide) (by decide) ?_)
    exact r_iret dX0_says_149 rfl (Nat.le_of_ble_eq_true rfl) (Nat.le_of_ble_eq_true rfl) (hQ _)
  · refine r_iload_n dX0_says_0 rfl ?_
    refine r_callS (as := [_]) okX0_isShelf q375 dX0_says_1 (Nat.le_of_ble_eq_true rfl) rfl (Nat.le_of_ble_eq_true rfl) (Nat.le_of_ble_eq_true rfl) (Nat.le_of_ble_eq_true rfl) (pX0_isShelf ?_)
    refine r_if_eq 16 dX0_says_4 (by decide) (fun c_ => absurd c_ (in8 hj)) (fun _ => ?_)
    refine r_iload_n dX0_says_7 rfl ?_
    refine r_iconst 0 dX0_says_8 (by decide) ?_
    refine r_iconst 5 dX0_says_9 (by decide) ?_
    refine r_callS (as := [_, _, _]) okX0_isIn q378 dX0_says_10 (Nat.le_of_ble_eq_true rfl) rfl (Nat.le_of_ble_eq_true rfl) (Nat.le_of_ble_eq_true rfl) (Nat.le_of_ble_eq_true rfl) (pX0_isIn ?_)
    refine r_if_ne 23 dX0_says_13 (by decide) (fun _ => ?_) (fun c_ => absurd c_ (in5 hq))
    refine r_aload_n dX0_says_23 rfl ?_
    refine r_get bX0 8 (by decide) q254 dX0_says_24 rfl rfl ?_
    refine r_iload_n dX0_says_27 rfl ?_
    refine r_aald_sheet dX0_says_28 rfl (vp_in_nI (by omega) (by omega)) ?_
    rw [nI_clamp (by omega)]
    refine r_get bX4 0 (by decide) q242 dX0_says_29 (sh_at hj) rfl ?_
    rw [e1]
    refine r_astore_n dX0_says_32 (Nat.le_of_ble_eq_true rfl) ?_
    refine r_aload_n dX0_says_33 rfl ?_
    refine r_ifnonnull 44 dX0_says_34 (by decide) ?_
    refine r_iload_n dX0_says_44 rfl ?_
    refine r_tableIn 96 dX0_says_45 (by decide) (by decide) rfl (by decide) ?_
    refine r_aload_n dX0_says_96 rfl ?_
    refine r_aload_n dX0_says_97 rfl ?_
    refine r_castNo (isA_row k hg) (ncK_1 k) (nmK_ok k) (clQ_ok 1) q542 dX0_says_98 (Nat.le_of_ble_eq_true rfl) (Nat.le_of_ble_eq_true rfl) (Nat.le_of_ble_eq_true rfl) (rt_catch (hp := 141) (fun G hG => srS (by decide) (srY (by decide) (by decide) q528 q540)) ?_)
    refine r_astore dX0_says_141 (Nat.le_of_ble_eq_true rfl) ?_
    refine r_aload_n dX0_says_143 rfl ?_
    refine r_bipush (-3) dX0_says_144 (by decide) ?_
    refine r_callV (as := [_]) okX0_no bX0 rfl rfl q381 dX0_says_146 (Nat.le_of_ble_eq_true rfl) rfl (Nat.le_of_ble_eq_true rfl) (Nat.le_of_ble_eq_true rfl) (Nat.le_of_ble_eq_true rfl) (pX0_no 3 (by decide) (by decide) ?_)
    exact r_iret dX0_says_149 rfl (Nat.le_of_ble_eq_true rfl) (Nat.le_of_ble_eq_true rfl) (hQ _)
  · refine r_iload_n dX0_says_0 rfl ?_
    refine r_callS (as := [_]) okX0_isShelf q375 dX0_says_1 (Nat.le_of_ble_eq_true rfl) rfl (Nat.le_of_ble_eq_true rfl) (Nat.le_of_ble_eq_true rfl) (Nat.le_of_ble_eq_true rfl) (pX0_isShelf ?_)
    refine r_if_eq 16 dX0_says_4 (by decide) (fun c_ => absurd c_ (in8 hj)) (fun _ => ?_)
    refine r_iload_n dX0_says_7 rfl ?_
    refine r_iconst 0 dX0_says_8 (by decide) ?_
    refine r_iconst 5 dX0_says_9 (by decide) ?_
    refine r_callS (as := [_, _, _]) okX0_isIn q378 dX0_says_10 (Nat.le_of_ble_eq_true rfl) rfl (Nat.le_of_ble_eq_true rfl) (Nat.le_of_ble_eq_true rfl) (Nat.le_of_ble_eq_true rfl) (pX0_isIn ?_)
    refine r_if_ne 23 dX0_says_13 (by decide) (fun _ => ?_) (fun c_ => absurd c_ (in5 hq))
    refine r_aload_n dX0_says_23 rfl ?_
    refine r_get bX0 8 (by decide) q254 dX0_says_24 rfl rfl ?_
    refine r_iload_n dX0_says_27 rfl ?_
    refine r_aald_sheet dX0_says_28 rfl (vp_in_nI (by omega) (by omega)) ?_
    rw [nI_clamp (by omega)]
    refine r_get bX4 0 (by decide) q242 dX0_says_29 (sh_at hj) rfl ?_
    rw [e1]
    refine r_astore_n dX0_says_32 (Nat.le_of_ble_eq_true rfl) ?_
    refine r_aload_n dX0_says_33 rfl ?_
    refine r_ifnonnull 44 dX0_says_34 (by decide) ?_
    refine r_iload_n dX0_says_44 rfl ?_
    refine r_tableIn 105 dX0_says_45 (by decide) (by decide) rfl (by decide) ?_
    refine r_aload_n dX0_says_105 rfl ?_
    refine r_aload_n dX0_says_106 rfl ?_
    refine r_castNo (isA_row k hg) (ncK_2 k) (nmK_ok k) (clQ_ok 2) q643 dX0_says_107 (Nat.le_of_ble_eq_true rfl) (Nat.le_of_ble_eq_true rfl) (Nat.le_of_ble_eq_true rfl) (rt_catch (hp := 141) (fun G hG => srS (by decide) (srS (by decide) (srY (by decide) (by decide) q528 q540))) ?_)
    refine r_astore dX0_says_141 (Nat.le_of_ble_eq_true rfl) ?_
    refine r_aload_n dX0_says_143 rfl ?_
    refine r_bipush (-3) dX0_says_144 (by decide) ?_
    refine r_callV (as := [_]) okX0_no bX0 rfl rfl q381 dX0_says_146 (Nat.le_of_ble_eq_true rfl) rfl (Nat.le_of_ble_eq_true rfl) (Nat.le_of_ble_eq_true rfl) (Nat.le_of_ble_eq_true rfl) (pX0_no 3 (by decide) (by decide) ?_)
    exact r_iret dX0_says_149 rfl (Nat.le_of_ble_eq_true rfl) (Nat.le_of_ble_eq_true rfl) (hQ _)
  · refine r_iload_n dX0_says_0 rfl ?_
    refine r_callS (as := [_]) okX0_isShelf q375 dX0_says_1 (Nat.le_of_ble_eq_true rfl) rfl (Nat.le_of_ble_eq_true rfl) (Nat.le_of_ble_eq_true rfl) (Nat.le_of_ble_eq_true rfl) (pX0_isShelf ?_)
    refine r_if_eq 16 dX0_says_4 (by decide) (fun c_ => absurd c_ (in8 hj)) (fun _ => ?_)
    refine r_iload_n dX0_says_7 rfl ?_
    refine r_iconst 0 dX0_says_8 (by decide) ?_
    refine r_iconst 5 dX0_says_9 (by decide) ?_
    refine r_callS (as := [_, _, _]) okX0_isIn q378 dX0_says_10 (Nat.le_of_ble_eq_true rfl) rfl (Nat.le_of_ble_eq_true rfl) (Nat.le_of_ble_eq_true rfl) (Nat.le_of_ble_eq_true rfl) (pX0_isIn ?_)
    refine r_if_ne 23 dX0_says_13 (by decide) (fun _ => ?_) (fun c_ => absurd c_ (in5 hq))
    refine r_aload_n dX0_says_23 rfl ?_
    refine r_get bX0 8 (by decide) q254 dX0_says_24 rfl rfl ?_
    refine r_iload_n dX0_says_27 rfl ?_
    refine r_aald_sheet dX0_says_28 rfl (vp_in_nI (by omega) (by omega)) ?_
    rw [nI_clamp (by omega)]
    refine r_get bX4 0 (by decide) q242 dX0_says_29 (sh_at hj) rfl ?_
    rw [e1]
    refine r_astore_n dX0_says_32 (Nat.le_of_ble_eq_true rfl) ?_
    refine r_aload_n dX0_says_33 rfl ?_
    refine r_ifnonnull 44 dX0_says_34 (by decide) ?_
    refine r_iload_n dX0_says_44 rfl ?_
    refine r_tableIn 114 dX0_says_45 (by decide) (by decide) rfl (by decide) ?_
    refine r_aload_n dX0_says_114 rfl ?_
    refine r_aload_n dX0_says_115 rfl ?_
    refine r_castNo (isA_row k hg) (ncK_3 k) (nmK_ok k) (clQ_ok 3) q644 dX0_says_116 (Nat.le_of_ble_eq_true rfl) (Nat.le_of_ble_eq_true rfl) (Nat.le_of_ble_eq_true rfl) (rt_catch (hp := 141) (fun G hG => srS (by decide) (srS (by decide) (srS (by decide) (srY (by decide) (by decide) q528 q540)))) ?_)
    refine r_astore dX0_says_141 (Nat.le_of_ble_eq_true rfl) ?_
    refine r_aload_n dX0_says_143 rfl ?_
    refine r_bipush (-3) dX0_says_144 (by decide) ?_
    refine r_callV (as := [_]) okX0_no bX0 rfl rfl q381 dX0_says_146 (Nat.le_of_ble_eq_true rfl) rfl (Nat.le_of_ble_eq_true rfl) (Nat.le_of_ble_eq_true rfl) (Nat.le_of_ble_eq_true rfl) (pX0_no 3 (by decide) (by decide) ?_)
    exact r_iret dX0_says_149 rfl (Nat.le_of_ble_eq_true rfl) (Nat.le_of_ble_eq_true rfl) (hQ _)
  · refine r_iload_n dX0_says_0 rfl ?_
    refine r_callS (as := [_]) okX0_isShelf q375 dX0_says_1 (Nat.le_of_ble_eq_true rfl) rfl (Nat.le_of_ble_eq_true rfl) (Nat.le_of_ble_eq_true rfl) (Nat.le_of_ble_eq_true rfl) (pX0_isShelf ?_)
    refine r_if_eq 16 dX0_says_4 (by decide) (fun c_ => absurd c_ (in8 hj)) (fun _ => ?_)
    refine r_iload_n dX0_says_7 rfl ?_
    refine r_iconst 0 dX0_says_8 (by decide) ?_
    refine r_iconst 5 dX0_says_9 (by decide) ?_
    refine r_callS (as := [_, _, _]) okX0_isIn q378 dX0_says_10 (Nat.le_of_ble_eq_true rfl) rfl (Nat.le_of_ble_eq_true rfl) (Nat.le_of_ble_eq_true rfl) (Nat.le_of_ble_eq_true rfl) (pX0_isIn ?_)
    refine r_if_ne 23 dX0_says_13 (by decide) (fun _ => ?_) (fun c_ => absurd c_ (in5 hq))
    refine r_aload_n dX0_says_23 rfl ?_
    refine r_get bX0 8 (by decide) q254 dX0_says_24 rfl rfl ?_
    refine r_iload_n dX0_says_27 rfl ?_
    refine r_aald_sheet dX0_says_28 rfl (vp_in_nI (by omega) (by omega)) ?_
    rw [nI_clamp (by omega)]
    refine r_get bX4 0 (by decide) q242 dX0_says_29 (sh_at hj) rfl ?_
    rw [e1]
    refine r_astore_n dX0_says_32 (Nat.le_of_ble_eq_true rfl) ?_
    refine r_aload_n dX0_says_33 rfl ?_
    refine r_ifnonnull 44 dX0_says_34 (by decide) ?_
    refine r_iload_n dX0_says_44 rfl ?_
    refine r_tableIn 123 dX0_says_45 (by decide) (by decide) rfl (by decide) ?_
    refine r_aload_n dX0_says_123 rfl ?_
    refine r_aload_n dX0_says_124 rfl ?_
    refine r_castNo (isA_row k hg) (ncK_4 k) (nmK_ok k) (clQ_ok 4) q645 dX0_says_125 (Nat.le_of_ble_eq_true rfl) (Nat.le_of_ble_eq_true rfl) (Nat.le_of_ble_eq_true rfl) (rt_catch (hp := 141) (fun G hG => srS (by decide) (srS (by decide) (srS (by decide) (srS (by decide) (srY (by decide) (by decide) q528 q540))))) ?_)
    refine r_astore dX0_says_141 (Nat.le_of_ble_eq_true rfl) ?_
    refine r_aload_n dX0_says_143 rfl ?_
    refine r_bipush (-3) dX0_says_144 (by decide) ?_
    refine r_callV (as := [_]) okX0_no bX0 rfl rfl q381 dX0_says_146 (Nat.le_of_ble_eq_true rfl) rfl (Nat.le_of_ble_eq_true rfl) (Nat.le_of_ble_eq_true rfl) (Nat.le_of_ble_eq_true rfl) (pX0_no 3 (by decide) (by decide) ?_)
    exact r_iret dX0_says_149 rfl (Nat.le_of_ble_eq_true rfl) (Nat.le_of_ble_eq_true rfl) (hQ _)
  · refine r_iload_n dX0_says_0 rfl ?_
    refine r_callS (as := [_]) okX0_isShelf q375 dX0_says_1 (Nat.le_of_ble_eq_true rfl) rfl (Nat.le_of_ble_eq_true rfl) (Nat.le_of_ble_eq_true rfl) (Nat.le_of_ble_eq_true rfl) (pX0_isShelf ?_)
    refine r_if_eq 16 dX0_says_4 (by decide) (fun c_ => absurd c_ (in8 hj)) (fun _ => ?_)
    refine r_iload_n dX0_says_7 rfl ?_
    refine r_iconst 0 dX0_says_8 (by decide) ?_
    refine r_iconst 5 dX0_says_9 (by decide) ?_
    refine r_callS (as := [_, _, _]) okX0_isIn q378 dX0_says_10 (Nat.le_of_ble_eq_true rfl) rfl (Nat.le_of_ble_eq_true rfl) (Nat.le_of_ble_eq_true rfl) (Nat.le_of_ble_eq_true rfl) (pX0_isIn ?_)
    refine r_if_ne 23 dX0_says_13 (by decide) (fun _ => ?_) (fun c_ => absurd c_ (in5 hq))
    refine r_aload_n dX0_says_23 rfl ?_
    refine r_get bX0 8 (by decide) q254 dX0_says_24 rfl rfl ?_
    refine r_iload_n dX0_says_27 rfl ?_
    refine r_aald_sheet dX0_says_28 rfl (vp_in_nI (by omega) (by omega)) ?_
    rw [nI_clamp (by omega)]
    refine r_get bX4 0 (by decide) q242 dX0_says_29 (sh_at hj) rfl ?_
    rw [e1]
    refine r_astore_n dX0_says_32 (Nat.le_of_ble_eq_true rfl) ?_
    refine r_aload_n dX0_says_33 rfl ?_
    refine r_ifnonnull 44 dX0_says_34 (by decide) ?_
    refine r_iload_n dX0_says_44 rfl ?_
    refine r_tableOut 132 dX0_says_45 (by decide) (by decide) ?_
    refine r_aload_n dX0_says_132 rfl ?_
    refine r_aload_n dX0_says_133 rfl ?_
    refine r_castNo (isA_row k hg) (ncK_5 k) (nmK_ok k) (clQ_ok 5) q646 dX0_says_134 (Nat.le_of_ble_eq_true rfl) (Nat.le_of_ble_eq_true rfl) (Nat.le_of_ble_eq_true rfl) (rt_catch (hp := 141) (fun G hG => srS (by decide) (srS (by decide) (srS (by decide) (srS (by decide) (srS (by decide) (srY (by decide) (by decide) q528 q540)))))) ?_)
    refine r_astore dX0_says_141 (Nat.le_of_ble_eq_true rfl) ?_
    refine r_aload_n dX0_says_143 rfl ?_
    refine r_bipush (-3) dX0_says_144 (by decide) ?_
    refine r_callV (as := [_]) okX0_no bX0 rfl rfl q381 dX0_says_146 (Nat.le_of_ble_eq_true rfl) rfl (Nat.le_of_ble_eq_true rfl) (Nat.le_of_ble_eq_true rfl) (Nat.le_of_ble_eq_true rfl) (pX0_no 3 (by decide) (by decide) ?_)
    exact r_iret dX0_says_149 rfl (Nat.le_of_ble_eq_true rfl) (Nat.le_of_ble_eq_true rfl) (hQ _)
theorem pX0_says_l {j a c x q : Nat} {w : Int32} {Q : OC → AHp → Prop} (hn : n ≤ 8) (hL : LkI lc r3 nl kN ow n) (hP : ThI th) (hj : j < 8) (hq : q < 6) (e1 : hv j = .ref a) (hc : c < 6) (hx : x < 8) (hg : ∀ x1, aGet (r0, x1, (wC th pf nl ag lk co sh hs (nI n) ev se lc), r3) a = some (.inr (7 + c, [.int (nI x), .int w]))) (hbad : undB (nI c) (nI q) = false → ∀ r3, Q (.inl (some (.int (-3)))) (r0, (xC (.ref 2) iv tP tL tA tK tC tS tH tN tE tZ tf mP mf eP eT eF ef eg ew rx gx wx hv tp td (upd rf 3 (rf 3 + 1)) rc ic), (wC th pf nl ag lk co sh hs (nI n) ev se lc), r3)) (h0 : q = 0 → Q (.inl (some (.int (ag x)))) (r0, (xC (.ref 2) iv tP tL tA tK tC tS tH tN tE tZ tf mP mf eP eT eF ef eg ew rx gx wx hv tp td rf rc ic), (wC th pf nl ag lk co sh hs (nI n) ev se lc), r3)) (hok : undB (nI c) (nI q) = true → q ≠ 0 → ∀ (eP eT eF : Nat → Int32) (ef eg : Int32) (ew : Value), Q (.inl (some (.int ((evR kN ow lk ag n th (1 <<< (nI x &&& 31))).2.1 x)))) (r0, (xC (.ref 2) iv tP tL tA tK tC tS tH tN tE tZ tf mP mf eP eT eF ef eg ew rx gx wx hv tp td rf rc ic), (wC th pf nl ag lk co sh hs (nI n) ev se lc), r3)) : AMetX mX0_says 11 3 1450 [.ref 1, .int (nI j), .int (nI q)] (r0, (xC (.ref 2) iv tP tL tA tK tC tS tH tN tE tZ tf mP mf eP eT eF ef eg ew rx gx wx hv tp td rf rc ic), (wC th pf nl ag lk co sh hs (nI n) ev se lc), r3) Q := by
  refine AMetX.ofRch rfl (Nat.le_of_ble_eq_true rfl) ?_
  rcases (show q = 0 ∨ q = 1 ∨ q = 2 ∨ q = 3 ∨ q = 4 ∨ q = 5 by omega) with rfl | rfl | rfl | rfl | rfl | rfl
  · refine r_iload_n dX0_says_0 rfl ?_
    refine r_callS (as := [_]) okX0_isShelf q375 dX0_says_1 (Nat.le_of_ble_eq_true rfl) rfl (Nat.le_of_ble_eq_true rfl) (Nat.le_of_ble_eq_true rfl) (Nat.le_of_ble_eq_true rfl) (pX0_isShelf ?_)
    refine r_if_eq 16 dX0_says_4 (by decide) (fun c_ => absurd c_ (in8 hj)) (fun _ => ?_)
    refine r_iload_n dX0_says_7 rfl ?_
    refine r_iconst 0 dX0_says_8 (by decide) ?_
    refine r_iconst 5 dX0_says_9 (by decide) ?_
    refine r_callS (as := [_, _, _]) okX0_isIn q378 dX0_says_10 (Nat.le_of_ble_eq_true rfl) rfl (Nat.le_of_ble_eq_true rfl) (Nat.le_of_ble_eq_true rfl) (Nat.le_of_ble_eq_true rfl) (pX0_isIn ?_)
    refine r_if_ne 23 dX0_says_13 (by decide) (fun _ => ?_) (fun c_ => absurd c_ (in5 hq))
    refine r_aload_n dX0_says_23 rfl ?_
    refine r_get bX0 8 (by decide) q254 dX0_says_24 rfl rfl ?_
    refine r_iload_n dX0_says_27 rfl ?_
    refine r_aald_sheet dX0_says_28 rfl (vp_in_nI (by omega) (by omega)) ?_
    rw [nI_clamp (by omega)]
    refine r_get bX4 0 (by decide) q242 dX0_says_29 (sh_at hj) rfl ?_
    rw [e1]
    refine r_astore_n dX0_says_32 (Nat.le_of_ble_eq_true rfl) ?_
    refine r_aload_n dX0_says_33 rfl ?_
    refine r_ifnonnull 44 dX0_says_34 (by decide) ?_
    refine r_iload_n dX0_says_44 rfl ?_
    refine r_tableIn 80 dX0_says_45 (by decide) (by decide) rfl (by decide) ?_
    refine r_aload_n dX0_says_80 rfl ?_
    refine r_get bX0 0 (by decide) q246 dX0_says_81 rfl rfl ?_
    refine r_get bX1 2 (by decide) q165 dX0_says_84 rfl rfl ?_
    refine r_aload_n dX0_says_87 rfl ?_
    refine r_cast_lk hc (hg _) q419 dX0_says_88 ?_
    refine r_lkN q674 dX0_says_91 hc (hg _) ?_
    refine r_ialdN dX0_says_94 rfl (by omega) (Nat.le_of_ble_eq_true rfl) ?_
    exact r_iret dX0_says_95 rfl (Nat.le_of_ble_eq_true rfl) (Nat.le_of_ble_eq_true rfl) (h0 rfl)
  · rcases (show c = 0 ∨ c = 1 ∨ c = 2 ∨ c = 3 ∨ c = 4 ∨ c = 5 by omega) with rfl | rfl | rfl | rfl | rfl | rfl
    · have hQ := hbad (by decide)
      refine r_iload_n dX0_says_0 rfl ?_
      refine r_callS (as := [_]) okX0_isShelf q375 dX0_says_1 (Nat.le_of_ble_eq_true rfl) rfl (Nat.le_of_ble_eq_true rfl) (Nat.le_of_ble_eq_true rfl) (Nat.le_of_ble_eq_true rfl) (pX0_isShelf ?_)
      refine r_if_eq 16 dX0_says_4 (by decide) (fun c_ => absurd c_ (in8 hj)) (fun _ => ?_)
      refine r_iload_n dX0_says_7 rfl ?_
      refine r_iconst 0 dX0_says_8 (by decide) ?_
      refine r_iconst 5 dX0_says_9 (by decide) ?_
      refine r_callS (as := [_, _, _]) okX0_isIn q378 dX0_says_10 (Nat.le_of_ble_eq_true rfl) rfl (Nat.le_of_ble_eq_true rfl) (Nat.le_of_ble_eq_true rfl) (Nat.le_of_ble_eq_true rfl) (pX0_isIn ?_)
      refine r_if_ne 23 dX0_says_13 (by decide) (fun _ => ?_) (fun c_ => absurd c_ (in5 hq))
      refine r_aload_n dX0_says_23 rfl ?_
      refine r_get bX0 8 (by decide) q254 dX0_says_24 rfl rfl ?_
      refine r_iload_n dX0_says_27 rfl ?_
      refine r_aald_sheet dX0_says_28 rfl (vp_in_nI (by omega) (by omega)) ?_
      rw [nI_clamp (by omega)]
      refine r_get bX4 0 (by decide) q242 dX0_says_29 (sh_at hj) rfl ?_
      rw [e1]
      refine r_astore_n dX0_says_32 (Nat.le_of_ble_eq_true rfl) ?_
      refine r_aload_n dX0_says_33 rfl ?_
      refine r_ifnonnull 44 dX0_says_34 (by decide) ?_
      refine r_iload_n dX0_says_44 rfl ?_
      refine r_tableIn 96 dX0_says_45 (by decide) (by decide) rfl (by decide) ?_
      refine r_aload_n dX0_says_96 rfl ?_
      refine r_aload_n dX0_says_97 rfl ?_
      refine r_castNo (isA_obj bX7 (hg _)) nc_Looker_Child (clQ_ok 0) (clQ_ok 1) q542 dX0_says_98 (Nat.le_of_ble_eq_true rfl) (Nat.le_of_ble_eq_true rfl) (Nat.le_of_ble_eq_true rfl) (rt_catch (hp := 141) (fun G hG => srS (by decide) (srY (by decide) (by decide) q528 q540)) ?_)
      refine r_astore dX0_says_141 (Nat.le_of_ble_eq_true rfl) ?_
      refine r_aload_n dX0_says_143 rfl ?_
      refine r_bipush (-3) dX0_says_144 (by decide) ?_
      refine r_callV (as := [_]) okX0_no bX0 rfl rfl q381 dX0_says_146 (Nat.le_of_ble_eq_true rfl) rfl (Nat.le_of_ble_eq_true rfl) (Nat.le_of_ble_eq_true rfl) (Nat.le_of_ble_eq_true rfl) (pX0_no 3 (by decide) (by decide) ?_)
      exact r_iret dX0_says_149 rfl (Nat.le_of_ble_eq_true rfl) (Nat.le_of_ble_eq_true rfl) (hQ _)
    · have hq3 := hok (by decide) (by decide)
      refine r_iload_n dX0_says_0 rfl ?_
      refine r_callS (as := [_]) okX0_isShelf q375 dX0_says_1 (Nat.le_of_ble_eq_true rfl) rfl (Nat.le_of_ble_eq_true rfl) (Nat.le_of_ble_eq_true rfl) (Nat.le_of_ble_eq_true rfl) (pX0_isShelf ?_)
      refine r_if_eq 16 dX0_says_4 (by decide) (fun c_ => absurd c_ (in8 hj)) (fun _ => ?_)
      refine r_iload_n dX0_says_7 rfl ?_
      refine r_iconst 0 dX0_says_8 (by decide) ?_
      refine r_iconst 5 dX0_says_9 (by decide) ?_
      refine r_callS (as := [_, _, _]) okX0_isIn q378 dX0_says_10 (Nat.le_of_ble_eq_true rfl) rfl (Nat.le_of_ble_eq_true rfl) (Nat.le_of_ble_eq_true rfl) (Nat.le_of_ble_eq_true rfl) (pX0_isIn ?_)
      refine r_if_ne 23 dX0_says_13 (by decide) (fun _ => ?_) (fun c_ => absurd c_ (in5 hq))
      refine r_aload_n dX0_says_23 rfl ?_
      refine r_get bX0 8 (by decide) q254 dX0_says_24 rfl rfl ?_
      refine r_iload_n dX0_says_27 rfl ?_
      refine r_aald_sheet dX0_says_28 rfl (vp_in_nI (by omega) (by omega)) ?_
      rw [nI_clamp (by omega)]
      refine r_get bX4 0 (by decide) q242 dX0_says_29 (sh_at hj) rfl ?_
      rw [e1]
      refine r_astore_n dX0_says_32 (Nat.le_of_ble_eq_true rfl) ?_
      refine r_aload_n dX0_says_33 rfl ?_
      refine r_ifnonnull 44 dX0_says_34 (by decide) ?_
      refine r_iload_n dX0_says_44 rfl ?_
      refine r_tableIn 96 dX0_says_45 (by decide) (by decide) rfl (by decide) ?_
      refine r_aload_n dX0_says_96 rfl ?_
      refine r_aload_n dX0_says_97 rfl ?_
      refine r_castE (isA_obj bX8 (hg _)) q542 dX0_says_98 ?_
      refine r_callV (as := [_]) okX0_alone bX0 rfl rfl q543 dX0_says_101 (Nat.le_of_ble_eq_true rfl) rfl (Nat.le_of_ble_eq_true rfl) (Nat.le_of_ble_eq_true rfl) (Nat.le_of_ble_eq_true rfl) (pX0_alone hn hL hP hx hc hg (fun eP eT eF ef eg ew => ?_))
      exact r_iret dX0_says_104 rfl (Nat.le_of_ble_eq_true rfl) (Nat.le_of_ble_eq_true rfl) (hq3 _ _ _ _ _ _)
    · have hQ := hbad (by decide)
      refine r_iload_n dX0_says_0 rfl ?_
      refine r_callS (as := [_]) okX0_isShelf q375 dX0_says_1 (Nat.le_of_ble_eq_true rfl) rfl (Nat.le_of_ble_eq_true rfl) (Nat.le_of_ble_eq_true rfl) (Nat.le_of_ble_eq_true rfl) (pX0_isShelf ?_)
      refine r_if_eq 16 dX0_says_4 (by decide) (fun c_ => absurd c_ (in8 hj)) (fun _ => ?_)
      refine r_iload_n dX0_says_7 rfl ?_
      refine r_iconst 0 dX0_says_8 (by decide) ?_
      refine r_iconst 5 dX0_says_9 (by decide) ?_
      refine r_callS (as := [_, _, _]) okX0_isIn q378 dX0_says_10 (Nat.le_of_ble_eq_true rfl) rfl (Nat.le_of_ble_eq_true rfl) (Nat.le_of_ble_eq_true rfl) (Nat.le_of_ble_eq_true rfl) (pX0_isIn ?_)
      refine r_if_ne 23 dX0_says_13 (by decide) (fun _ => ?_) (fun c_ => absurd c_ (in5 hq))
      refine r_aload_n dX0_says_23 rfl ?_
      refine r_get bX0 8 (by decide) q254 dX0_says_24 rfl rfl ?_
      refine r_iload_n dX0_says_27 rfl ?_
      refine r_aald_sheet dX0_says_28 rfl (vp_in_nI (by omega) (by omega)) ?_
      rw [nI_clamp (by omega)]
      refine r_get bX4 0 (by decide) q242 dX0_says_29 (sh_at hj) rfl ?_
      rw [e1]
      refine r_astore_n dX0_says_32 (Nat.le_of_ble_eq_true rfl) ?_
      refine r_aload_n dX0_says_33 rfl ?_
      refine r_ifnonnull 44 dX0_says_34 (by decide) ?_
      refine r_iload_n dX0_says_44 rfl ?_
      refine r_tableIn 96 dX0_says_45 (by decide) (by decide) rfl (by decide) ?_
      refine r_aload_n dX0_says_96 rfl ?_
      refine r_aload_n dX0_says_97 rfl ?_
      refine r_castNo (isA_obj bX9 (hg _)) nc_Old_Child (clQ_ok 2) (clQ_ok 1) q542 dX0_says_98 (Nat.le_of_ble_eq_true rfl) (Nat.le_of_ble_eq_true rfl) (Nat.le_of_ble_eq_true rfl) (rt_catch (hp := 141) (fun G hG => srS (by decide) (srY (by decide) (by decide) q528 q540)) ?_)
      refine r_astore dX0_says_141 (Nat.le_of_ble_eq_true rfl) ?_
      refine r_aload_n dX0_says_143 rfl ?_
      refine r_bipush (-3) dX0_says_144 (by decide) ?_
      refine r_callV (as := [_]) okX0_no bX0 rfl rfl q381 dX0_says_146 (Nat.le_of_ble_eq_true rfl) rfl (Nat.le_of_ble_eq_true rfl) (Nat.le_of_ble_eq_true rfl) (Nat.le_of_ble_eq_true rfl) (pX0_no 3 (by decide) (by decide) ?_)
      exact r_iret dX0_says_149 rfl (Nat.le_of_ble_eq_true rfl) (Nat.le_of_ble_eq_true rfl) (hQ _)
    · have hq3 := hok (by decide) (by decide)
      refine r_iload_n dX0_says_0 rfl ?_
      refine r_callS (as := [_]) okX0_isShelf q375 dX0_says_1 (Nat.le_of_ble_eq_true rfl) rfl (Nat.le_of_ble_eq_true rfl) (Nat.le_of_ble_eq_true rfl) (Nat.le_of_ble_eq_true rfl) (pX0_isShelf ?_)
      refine r_if_eq 16 dX0_says_4 (by decide) (fun c_ => absurd c_ (in8 hj)) (fun _ => ?_)
      refine r_iload_n dX0_says_7 rfl ?_
      refine r_iconst 0 dX0_says_8 (by decide) ?_
      refine r_iconst 5 dX0_says_9 (by decide) ?_
      refine r_callS (as := [_, _, _]) okX0_isIn q378 dX0_says_10 (Nat.le_of_ble_eq_true rfl) rfl (Nat.le_of_ble_eq_true rfl) (Nat.le_of_ble_eq_true rfl) (Nat.le_of_ble_eq_true rfl) (pX0_isIn ?_)
      refine r_if_ne 23 dX0_says_13 (by decide) (fun _ => ?_) (fun c_ => absurd c_ (in5 hq))
      refine r_aload_n dX0_says_23 rfl ?_
      refine r_get bX0 8 (by decide) q254 dX0_says_24 rfl rfl ?_
      refine r_iload_n dX0_says_27 rfl ?_
      refine r_aald_sheet dX0_says_28 rfl (vp_in_nI (by omega) (by omega)) ?_
      rw [nI_clamp (by omega)]
      refine r_get bX4 0 (by decide) q242 dX0_says_29 (sh_at hj) rfl ?_
      rw [e1]
      refine r_astore_n dX0_says_32 (Nat.le_of_ble_eq_true rfl) ?_
      refine r_aload_n dX0_says_33 rfl ?_
      refine r_ifnonnull 44 dX0_says_34 (by decide) ?_
      refine r_iload_n dX0_says_44 rfl ?_
      refine r_tableIn 96 dX0_says_45 (by decide) (by decide) rfl (by decide) ?_
      refine r_aload_n dX0_says_96 rfl ?_
      refine r_aload_n dX0_says_97 rfl ?_
      refine r_castY (isA_obj bX10 (hg _)) q2064 q542 dX0_says_98 ?_
      refine r_callV (as := [_]) okX0_alone bX0 rfl rfl q543 dX0_says_101 (Nat.le_of_ble_eq_true rfl) rfl (Nat.le_of_ble_eq_true rfl) (Nat.le_of_ble_eq_true rfl) (Nat.le_of_ble_eq_true rfl) (pX0_alone hn hL hP hx hc hg (fun eP eT eF ef eg ew => ?_))
      exact r_iret dX0_says_104 rfl (Nat.le_of_ble_eq_true rfl) (Nat.le_of_ble_eq_true rfl) (hq3 _ _ _ _ _ _)
    · have hQ := hbad (by decide)
      refine r_iload_n dX0_says_0 rfl ?_
      refine r_callS (as := [_]) okX0_isShelf q375 dX0_says_1 (Nat.le_of_ble_eq_true rfl) rfl (Nat.le_of_ble_eq_true rfl) (Nat.le_of_ble_eq_true rfl) (Nat.le_of_ble_eq_true rfl) (pX0_isShelf ?_)
      refine r_if_eq 16 dX0_says_4 (by decide) (fun c_ => absurd c_ (in8 hj)) (fun _ => ?_)
      refine r_iload_n dX0_says_7 rfl ?_
      refine r_iconst 0 dX0_says_8 (by decide) ?_
      refine r_iconst 5 dX0_says_9 (by decide) ?_
      refine r_callS (as := [_, _, _]) okX0_isIn q378 dX0_says_10 (Nat.le_of_ble_eq_true rfl) rfl (Nat.le_of_ble_eq_true rfl) (Nat.le_of_ble_eq_true rfl) (Nat.le_of_ble_eq_true rfl) (pX0_isIn ?_)
      refine r_if_ne 23 dX0_says_13 (by decide) (fun _ => ?_) (fun c_ => absurd c_ (in5 hq))
      refine r_aload_n dX0_says_23 rfl ?_
      refine r_get bX0 8 (by decide) q254 dX0_says_24 rfl rfl ?_
      refine r_iload_n dX0_says_27 rfl ?_
      refine r_aald_sheet dX0_says_28 rfl (vp_in_nI (by omega) (by omega)) ?_
      rw [nI_clamp (by omega)]
      refine r_get bX4 0 (by decide) q242 dX0_says_29 (sh_at hj) rfl ?_
      rw [e1]
      refine r_astore_n dX0_says_32 (Nat.le_of_ble_eq_true rfl) ?_
      refine r_aload_n dX0_says_33 rfl ?_
      refine r_ifnonnull 44 dX0_says_34 (by decide) ?_
      refine r_iload_n dX0_says_44 rfl ?_
      refine r_tableIn 96 dX0_says_45 (by decide) (by decide) rfl (by decide) ?_
      refine r_aload_n dX0_says_96 rfl ?_
      refine r_aload_n dX0_says_97 rfl ?_
      refine r_castNo (isA_obj bX11 (hg _)) nc_Giver_Child (clQ_ok 4) (clQ_ok 1) q542 dX0_says_98 (Nat.le_of_ble_eq_true rfl) (Nat.le_of_ble_eq_true rfl) (Nat.le_of_ble_eq_true rfl) (rt_catch (hp := 141) (fun G hG => srS (by decide) (srY (by decide) (by decide) q528 q540)) ?_)
      refine r_astore dX0_says_141 (Nat.le_of_ble_eq_true rfl) ?_
      refine r_aload_n dX0_says_143 rfl ?_
      refine r_bipush (-3) dX0_says_144 (by decide) ?_
      refine r_callV (as := [_]) okX0_no bX0 rfl rfl q381 dX0_says_146 (Nat.le_of_ble_eq_true rfl) rfl (Nat.le_of_ble_eq_true rfl) (Nat.le_of_ble_eq_true rfl) (Nat.le_of_ble_eq_true rfl) (pX0_no 3 (by decide) (by decide) ?_)
      exact r_iret dX0_says_149 rfl (Nat.le_of_ble_eq_true rfl) (Nat.le_of_ble_eq_true rfl) (hQ _)
    · have hQ := hbad (by decide)
      refine r_iload_n dX0_says_0 rfl ?_
      refine r_callS (as := [_]) okX0_isShelf q375 dX0_says_1 (Nat.le_of_ble_eq_true rfl) rfl (Nat.le_of_ble_eq_true rfl) (Nat.le_of_ble_eq_true rfl) (Nat.le_of_ble_eq_true rfl) (pX0_isShelf ?_)
      refine r_if_eq 16 dX0_says_4 (by decide) (fun c_ => absurd c_ (in8 hj)) (fun _ => ?_)
      refine r_iload_n dX0_says_7 rfl ?_
      refine r_iconst 0 dX0_says_8 (by decide) ?_
      refine r_iconst 5 dX0_says_9 (by decide) ?_
      refine r_callS (as := [_, _, _]) okX0_isIn q378 dX0_says_10 (Nat.le_of_ble_eq_true rfl) rfl (Nat.le_of_ble_eq_true rfl) (Nat.le_of_ble_eq_true rfl) (Nat.le_of_ble_eq_true rfl) (pX0_isIn ?_)
      refine r_if_ne 23 dX0_says_13 (by decide) (fun _ => ?_) (fun c_ => absurd c_ (in5 hq))
      refine r_aload_n dX0_says_23 rfl ?_
      refine r_get bX0 8 (by decide) q254 dX0_says_24 rfl rfl ?_
      refine r_iload_n dX0_says_27 rfl ?_
      refine r_aald_sheet dX0_says_28 rfl (vp_in_nI (by omega) (by omega)) ?_
      rw [nI_clamp (by omega)]
      refine r_get bX4 0 (by decide) q242 dX0_says_29 (sh_at hj) rfl ?_
      rw [e1]
      refine r_astore_n dX0_says_32 (Nat.le_of_ble_eq_true rfl) ?_
      refine r_aload_n dX0_says_33 rfl ?_
      refine r_ifnonnull 44 dX0_says_34 (by decide) ?_
      refine r_iload_n dX0_says_44 rfl ?_
      refine r_tableIn 96 dX0_says_45 (by decide) (by decide) rfl (by decide) ?_
      refine r_aload_n dX0_says_96 rfl ?_
      refine r_aload_n dX0_says_97 rfl ?_
      refine r_castNo (isA_obj bX12 (hg _)) nc_Shy_Child (clQ_ok 5) (clQ_ok 1) q542 dX0_says_98 (Nat.le_of_ble_eq_true rfl) (Nat.le_of_ble_eq_true rfl) (Nat.le_of_ble_eq_true rfl) (rt_catch (hp := 141) (fun G hG => srS (by decide) (srY (by decide) (by decide) q528 q540)) ?_)
      refine r_astore dX0_says_141 (Nat.le_of_ble_eq_true rfl) ?_
      refine r_aload_n dX0_says_143 rfl ?_
      refine r_bipush (-3) dX0_says_144 (by decide) ?_
      refine r_callV (as := [_]) okX0_no bX0 rfl rfl q381 dX0_says_146 (Nat.le_of_ble_eq_true rfl) rfl (Nat.le_of_ble_eq_true rfl) (Nat.le_of_ble_eq_true rfl) (Nat.le_of_ble_eq_true rfl) (pX0_no 3 (by decide) (by decide) ?_)
      exact r_iret dX0_says_149 rfl (Nat.le_of_ble_eq_true rfl) (Nat.le_of_ble_eq_true rfl) (hQ _)
  · rcases (show c = 0 ∨ c = 1 ∨ c = 2 ∨ c = 3 ∨ c = 4 ∨ c = 5 by omega) with rfl | rfl | rfl | rfl | rfl | rfl
    · have hQ := hbad (by decide)
      refine r_iload_n dX0_says_0 rfl ?_
      refine r_callS (as := [_]) okX0_isShelf q375 dX0_says_1 (Nat.le_of_ble_eq_true rfl) rfl (Nat.le_of_ble_eq_true rfl) (Nat.le_of_ble_eq_true rfl) (Nat.le_of_ble_eq_true rfl) (pX0_isShelf ?_)
      refine r_if_eq 16 dX0_says_4 (by decide) (fun c_ => absurd c_ (in8 hj)) (fun _ => ?_)
      refine r_iload_n dX0_says_7 rfl ?_
      refine r_iconst 0 dX0_says_8 (by decide) ?_
      refine r_iconst 5 dX0_says_9 (by decide) ?_
      refine r_callS (as := [_, _, _]) okX0_isIn q378 dX0_says_10 (Nat.le_of_ble_eq_true rfl) rfl (Nat.le_of_ble_eq_true rfl) (Nat.le_of_ble_eq_true rfl) (Nat.le_of_ble_eq_true rfl) (pX0_isIn ?_)
      refine r_if_ne 23 dX0_says_13 (by decide) (fun _ => ?_) (fun c_ => absurd c_ (in5 hq))
      refine r_aload_n dX0_says_23 rfl ?_
      refine r_get bX0 8 (by decide) q254 dX0_says_24 rfl rfl ?_
      refine r_iload_n dX0_says_27 rfl ?_
      refine r_aald_sheet dX0_says_28 rfl (vp_in_nI (by omega) (by omega)) ?_
      rw [nI_clamp (by omega)]
      refine r_get bX4 0 (by decide) q242 dX0_says_29 (sh_at hj) rfl ?_
      rw [e1]
      refine r_astore_n dX0_says_32 (Nat.le_of_ble_eq_true rfl) ?_
      refine r_aload_n dX0_says_33 rfl ?_
      refine r_ifnonnull 44 dX0_says_34 (by decide) ?_
      refine r_iload_n dX0_says_44 rfl ?_
      refine r_tableIn 105 dX0_says_45 (by decide) (by decide) rfl (by decide) ?_
      refine r_aload_n dX0_says_105 rfl ?_
      refine r_aload_n dX0_says_106 rfl ?_
      refine r_castNo (isA_obj bX7 (hg _)) nc_Looker_Old (clQ_ok 0) (clQ_ok 2) q643 dX0_says_107 (Nat.le_of_ble_eq_true rfl) (Nat.le_of_ble_eq_true rfl) (Nat.le_of_ble_eq_true rfl) (rt_catch (hp := 141) (fun G hG => srS (by decide) (srS (by decide) (srY (by decide) (by decide) q528 q540))) ?_)
      refine r_astore dX0_says_141 (Nat.le_of_ble_eq_true rfl) ?_
      refine r_aload_n dX0_says_143 rfl ?_
      refine r_bipush (-3) dX0_says_144 (by decide) ?_
      refine r_callV (as := [_]) okX0_no bX0 rfl rfl q381 dX0_says_146 (Nat.le_of_ble_eq_true rfl) rfl (Nat.le_of_ble_eq_true rfl) (Nat.le_of_ble_eq_true rfl) (Nat.le_of_ble_eq_true rfl) (pX0_no 3 (by decide) (by decide) ?_)
      exact r_iret dX0_says_149 rfl (Nat.le_of_ble_eq_true rfl) (Nat.le_of_ble_eq_true rfl) (hQ _)
    · have hQ := hbad (by decide)
      refine r_iload_n dX0_says_0 rfl ?_
      refine r_callS (as := [_]) okX0_isShelf q375 dX0_says_1 (Nat.le_of_ble_eq_true rfl) rfl (Nat.le_of_ble_eq_true rfl) (Nat.le_of_ble_eq_true rfl) (Nat.le_of_ble_eq_true rfl) (pX0_isShelf ?_)
      refine r_if_eq 16 dX0_says_4 (by decide) (fun c_ => absurd c_ (in8 hj)) (fun _ => ?_)
      refine r_iload_n dX0_says_7 rfl ?_
      refine r_iconst 0 dX0_says_8 (by decide) ?_
      refine r_iconst 5 dX0_says_9 (by decide) ?_
      refine r_callS (as := [_, _, _]) okX0_isIn q378 dX0_says_10 (Nat.le_of_ble_eq_true rfl) rfl (Nat.le_of_ble_eq_true rfl) (Nat.le_of_ble_eq_true rfl) (Nat.le_of_ble_eq_true rfl) (pX0_isIn ?_)
      refine r_if_ne 23 dX0_says_13 (by decide) (fun _ => ?_) (fun c_ => absurd c_ (in5 hq))
      refine r_aload_n dX0_says_23 rfl ?_
      refine r_get bX0 8 (by decide) q254 dX0_says_24 rfl rfl ?_
      refine r_iload_n dX0_says_27 rfl ?_
      refine r_aald_sheet dX0_says_28 rfl (vp_in_nI (by omega) (by omega)) ?_
      rw [nI_clamp (by omega)]
      refine r_get bX4 0 (by decide) q242 dX0_says_29 (sh_at hj) rfl ?_
      rw [e1]
      refine r_astore_n dX0_says_32 (Nat.le_of_ble_eq_true rfl) ?_
      refine r_aload_n dX0_says_33 rfl ?_
      refine r_ifnonnull 44 dX0_says_34 (by decide) ?_
      refine r_iload_n dX0_says_44 rfl ?_
      refine r_tableIn 105 dX0_says_45 (by decide) (by decide) rfl (by decide) ?_
      refine r_aload_n dX0_says_105 rfl ?_
      refine r_aload_n dX0_says_106 rfl ?_
      refine r_castNo (isA_obj bX8 (hg _)) nc_Child_Old (clQ_ok 1) (clQ_ok 2) q643 dX0_says_107 (Nat.le_of_ble_eq_true rfl) (Nat.le_of_ble_eq_true rfl) (Nat.le_of_ble_eq_true rfl) (rt_catch (hp := 141) (fun G hG => srS (by decide) (srS (by decide) (srY (by decide) (by decide) q528 q540))) ?_)
      refine r_astore dX0_says_141 (Nat.le_of_ble_eq_true rfl) ?_
      refine r_aload_n dX0_says_143 rfl ?_
      refine r_bipush (-3) dX0_says_144 (by decide) ?_
      refine r_callV (as := [_]) okX0_no bX0 rfl rfl q381 dX0_says_146 (Nat.le_of_ble_eq_true rfl) rfl (Nat.le_of_ble_eq_true rfl) (Nat.le_of_ble_eq_true rfl) (Nat.le_of_ble_eq_true rfl) (pX0_no 3 (by decide) (by decide) ?_)
      exact r_iret dX0_says_149 rfl (Nat.le_of_ble_eq_true rfl) (Nat.le_of_ble_eq_true rfl) (hQ _)
    · have hq3 := hok (by decide) (by decide)
      refine r_iload_n dX0_says_0 rfl ?_
      refine r_callS (as := [_]) okX0_isShelf q375 dX0_says_1 (Nat.le_of_ble_eq_true rfl) rfl (Nat.le_of_ble_eq_true rfl) (Nat.le_of_ble_eq_true rfl) (Nat.le_of_ble_eq_true rfl) (pX0_isShelf ?_)
      refine r_if_eq 16 dX0_says_4 (by decide) (fun c_ => absurd c_ (in8 hj)) (fun _ => ?_)
      refine r_iload_n dX0_says_7 rfl ?_
      refine r_iconst 0 dX0_says_8 (by decide) ?_
      refine r_iconst 5 dX0_says_9 (by decide) ?_
      refine r_callS (as := [_, _, _]) okX0_isIn q378 dX0_says_10 (Nat.le_of_ble_eq_true rfl) rfl (Nat.le_of_ble_eq_true rfl) (Nat.le_of_ble_eq_true rfl) (Nat.le_of_ble_eq_true rfl) (pX0_isIn ?_)
      refine r_if_ne 23 dX0_says_13 (by decide) (fun _ => ?_) (fun c_ => absurd c_ (in5 hq))
      refine r_aload_n dX0_says_23 rfl ?_
      refine r_get bX0 8 (by decide) q254 dX0_says_24 rfl rfl ?_
      refine r_iload_n dX0_says_27 rfl ?_
      refine r_aald_sheet dX0_says_28 rfl (vp_in_nI (by omega) (by omega)) ?_
      rw [nI_clamp (by omega)]
      refine r_get bX4 0 (by decide) q242 dX0_says_29 (sh_at hj) rfl ?_
      rw [e1]
      refine r_astore_n dX0_says_32 (Nat.le_of_ble_eq_true rfl) ?_
      refine r_aload_n dX0_says_33 rfl ?_
      refine r_ifnonnull 44 dX0_says_34 (by decide) ?_
      refine r_iload_n dX0_says_44 rfl ?_
      refine r_tableIn 105 dX0_says_45 (by decide) (by decide) rfl (by decide) ?_
      refine r_aload_n dX0_says_105 rfl ?_
      refine r_aload_n dX0_says_106 rfl ?_
      refine r_castE (isA_obj bX9 (hg _)) q643 dX0_says_107 ?_
      refine r_callV (as := [_]) okX0_alone bX0 rfl rfl q543 dX0_says_110 (Nat.le_of_ble_eq_true rfl) rfl (Nat.le_of_ble_eq_true rfl) (Nat.le_of_ble_eq_true rfl) (Nat.le_of_ble_eq_true rfl) (pX0_alone hn hL hP hx hc hg (fun eP eT eF ef eg ew => ?_))
      exact r_iret dX0_says_113 rfl (Nat.le_of_ble_eq_true rfl) (Nat.le_of_ble_eq_true rfl) (hq3 _ _ _ _ _ _)
    · have hQ := hbad (by decide)
      refine r_iload_n dX0_says_0 rfl ?_
      refine r_callS (as := [_]) okX0_isShelf q375 dX0_says_1 (Nat.le_of_ble_eq_true rfl) rfl (Nat.le_of_ble_eq_true rfl) (Nat.le_of_ble_eq_true rfl) (Nat.le_of_ble_eq_true rfl) (pX0_isShelf ?_)
      refine r_if_eq 16 dX0_says_4 (by decide) (fun c_ => absurd c_ (in8 hj)) (fun _ => ?_)
      refine r_iload_n dX0_says_7 rfl ?_
      refine r_iconst 0 dX0_says_8 (by decide) ?_
      refine r_iconst 5 dX0_says_9 (by decide) ?_
      refine r_callS (as := [_, _, _]) okX0_isIn q378 dX0_says_10 (Nat.le_of_ble_eq_true rfl) rfl (Nat.le_of_ble_eq_true rfl) (Nat.le_of_ble_eq_true rfl) (Nat.le_of_ble_eq_true rfl) (pX0_isIn ?_)
      refine r_if_ne 23 dX0_says_13 (by decide) (fun _ => ?_) (fun c_ => absurd c_ (in5 hq))
      refine r_aload_n dX0_says_23 rfl ?_
      refine r_get bX0 8 (by decide) q254 dX0_says_24 rfl rfl ?_
      refine r_iload_n dX0_says_27 rfl ?_
      refine r_aald_sheet dX0_says_28 rfl (vp_in_nI (by omega) (by omega)) ?_
      rw [nI_clamp (by omega)]
      refine r_get bX4 0 (by decide) q242 dX0_says_29 (sh_at hj) rfl ?_
      rw [e1]
      refine r_astore_n dX0_says_32 (Nat.le_of_ble_eq_true rfl) ?_
      refine r_aload_n dX0_says_33 rfl ?_
      refine r_ifnonnull 44 dX0_says_34 (by decide) ?_
      refine r_iload_n dX0_says_44 rfl ?_
      refine r_tableIn 105 dX0_says_45 (by decide) (by decide) rfl (by decide) ?_
      refine r_aload_n dX0_says_105 rfl ?_
      refine r_aload_n dX0_says_106 rfl ?_
      refine r_castNo (isA_obj bX10 (hg _)) nc_Greedy_Old (clQ_ok 3) (clQ_ok 2) q643 dX0_says_107 (Nat.le_of_ble_eq_true rfl) (Nat.le_of_ble_eq_true rfl) (Nat.le_of_ble_eq_true rfl) (rt_catch (hp := 141) (fun G hG => srS (by decide) (srS (by decide) (srY (by decide) (by decide) q528 q540))) ?_)
      refine r_astore dX0_says_141 (Nat.le_of_ble_eq_true rfl) ?_
      refine r_aload_n dX0_says_143 rfl ?_
      refine r_bipush (-3) dX0_says_144 (by decide) ?_
      refine r_callV (as := [_]) okX0_no bX0 rfl rfl q381 dX0_says_146 (Nat.le_of_ble_eq_true rfl) rfl (Nat.le_of_ble_eq_true rfl) (Nat.le_of_ble_eq_true rfl) (Nat.le_of_ble_eq_true rfl) (pX0_no 3 (by decide) (by decide) ?_)
      exact r_iret dX0_says_149 rfl (Nat.le_of_ble_eq_true rfl) (Nat.le_of_ble_eq_true rfl) (hQ _)
    · have hq3 := hok (by decide) (by decide)
      refine r_iload_n dX0_says_0 rfl ?_
      refine r_callS (as := [_]) okX0_isShelf q375 dX0_says_1 (Nat.le_of_ble_eq_true rfl) rfl (Nat.le_of_ble_eq_true rfl) (Nat.le_of_ble_eq_true rfl) (Nat.le_of_ble_eq_true rfl) (pX0_isShelf ?_)
      refine r_if_eq 16 dX0_says_4 (by decide) (fun c_ => absurd c_ (in8 hj)) (fun _ => ?_)
      refine r_iload_n dX0_says_7 rfl ?_
      refine r_iconst 0 dX0_says_8 (by decide) ?_
      refine r_iconst 5 dX0_says_9 (by decide) ?_
      refine r_callS (as := [_, _, _]) okX0_isIn q378 dX0_says_10 (Nat.le_of_ble_eq_true rfl) rfl (Nat.le_of_ble_eq_true rfl) (Nat.le_of_ble_eq_true rfl) (Nat.le_of_ble_eq_true rfl) (pX0_isIn ?_)
      refine r_if_ne 23 dX0_says_13 (by decide) (fun _ => ?_) (fun c_ => absurd c_ (in5 hq))
      refine r_aload_n dX0_says_23 rfl ?_
      refine r_get bX0 8 (by decide) q254 dX0_says_24 rfl rfl ?_
      refine r_iload_n dX0_says_27 rfl ?_
      refine r_aald_sheet dX0_says_28 rfl (vp_in_nI (by omega) (by omega)) ?_
      rw [nI_clamp (by omega)]
      refine r_get bX4 0 (by decide) q242 dX0_says_29 (sh_at hj) rfl ?_
      rw [e1]
      refine r_astore_n dX0_says_32 (Nat.le_of_ble_eq_true rfl) ?_
      refine r_aload_n dX0_says_33 rfl ?_
      refine r_ifnonnull 44 dX0_says_34 (by decide) ?_
      refine r_iload_n dX0_says_44 rfl ?_
      refine r_tableIn 105 dX0_says_45 (by decide) (by decide) rfl (by decide) ?_
      refine r_aload_n dX0_says_105 rfl ?_
      refine r_aload_n dX0_says_106 rfl ?_
      refine r_castY (isA_obj bX11 (hg _)) q2065 q643 dX0_says_107 ?_
      refine r_callV (as := [_]) okX0_alone bX0 rfl rfl q543 dX0_says_110 (Nat.le_of_ble_eq_true rfl) rfl (Nat.le_of_ble_eq_true rfl) (Nat.le_of_ble_eq_true rfl) (Nat.le_of_ble_eq_true rfl) (pX0_alone hn hL hP hx hc hg (fun eP eT eF ef eg ew => ?_))
      exact r_iret dX0_says_113 rfl (Nat.le_of_ble_eq_true rfl) (Nat.le_of_ble_eq_true rfl) (hq3 _ _ _ _ _ _)
    · have hQ := hbad (by decide)
      refine r_iload_n dX0_says_0 rfl ?_
      refine r_callS (as := [_]) okX0_isShelf q375 dX0_says_1 (Nat.le_of_ble_eq_true rfl) rfl (Nat.le_of_ble_eq_true rfl) (Nat.le_of_ble_eq_true rfl) (Nat.le_of_ble_eq_true rfl) (pX0_isShelf ?_)
      refine r_if_eq 16 dX0_says_4 (by decide) (fun c_ => absurd c_ (in8 hj)) (fun _ => ?_)
      refine r_iload_n dX0_says_7 rfl ?_
      refine r_iconst 0 dX0_says_8 (by decide) ?_
      refine r_iconst 5 dX0_says_9 (by decide) ?_
      refine r_callS (as := [_, _, _]) okX0_isIn q378 dX0_says_10 (Nat.le_of_ble_eq_true rfl) rfl (Nat.le_of_ble_eq_true rfl) (Nat.le_of_ble_eq_true rfl) (Nat.le_of_ble_eq_true rfl) (pX0_isIn ?_)
      refine r_if_ne 23 dX0_says_13 (by decide) (fun _ => ?_) (fun c_ => absurd c_ (in5 hq))
      refine r_aload_n dX0_says_23 rfl ?_
      refine r_get bX0 8 (by decide) q254 dX0_says_24 rfl rfl ?_
      refine r_iload_n dX0_says_27 rfl ?_
      refine r_aald_sheet dX0_says_28 rfl (vp_in_nI (by omega) (by omega)) ?_
      rw [nI_clamp (by omega)]
      refine r_get bX4 0 (by decide) q242 dX0_says_29 (sh_at hj) rfl ?_
      rw [e1]
      refine r_astore_n dX0_says_32 (Nat.le_of_ble_eq_true rfl) ?_
      refine r_aload_n dX0_says_33 rfl ?_
      refine r_ifnonnull 44 dX0_says_34 (by decide) ?_
      refine r_iload_n dX0_says_44 rfl ?_
      refine r_tableIn 105 dX0_says_45 (by decide) (by decide) rfl (by decide) ?_
      refine r_aload_n dX0_says_105 rfl ?_
      refine r_aload_n dX0_says_106 rfl ?_
      refine r_castNo (isA_obj bX12 (hg _)) nc_Shy_Old (clQ_ok 5) (clQ_ok 2) q643 dX0_says_107 (Nat.le_of_ble_eq_true rfl) (Nat.le_of_ble_eq_true rfl) (Nat.le_of_ble_eq_true rfl) (rt_catch (hp := 141) (fun G hG => srS (by decide) (srS (by decide) (srY (by decide) (by decide) q528 q540))) ?_)
      refine r_astore dX0_says_141 (Nat.le_of_ble_eq_true rfl) ?_
      refine r_aload_n dX0_says_143 rfl ?_
      refine r_bipush (-3) dX0_says_144 (by decide) ?_
      refine r_callV (as := [_]) okX0_no bX0 rfl rfl q381 dX0_says_146 (Nat.le_of_ble_eq_true rfl) rfl (Nat.le_of_ble_eq_true rfl) (Nat.le_of_ble_eq_true rfl) (Nat.le_of_ble_eq_true rfl) (pX0_no 3 (by decide) (by decide) ?_)
      exact r_iret dX0_says_149 rfl (Nat.le_of_ble_eq_true rfl) (Nat.le_of_ble_eq_true rfl) (hQ _)
  · rcases (show c = 0 ∨ c = 1 ∨ c = 2 ∨ c = 3 ∨ c = 4 ∨ c = 5 by omega) with rfl | rfl | rfl | rfl | rfl | rfl
    · have hQ := hbad (by decide)
      refine r_iload_n dX0_says_0 rfl ?_
      refine r_callS (as := [_]) okX0_isShelf q375 dX0_says_1 (Nat.le_of_ble_eq_true rfl) rfl (Nat.le_of_ble_eq_true rfl) (Nat.le_of_ble_eq_true rfl) (Nat.le_of_ble_eq_true rfl) (pX0_isShelf ?_)
      refine r_if_eq 16 dX0_says_4 (by decide) (fun c_ => absurd c_ (in8 hj)) (fun _ => ?_)
      refine r_iload_n dX0_says_7 rfl ?_
      refine r_iconst 0 dX0_says_8 (by decide) ?_
      refine r_iconst 5 dX0_says_9 (by decide) ?_
      refine r_callS (as := [_, _, _]) okX0_isIn q378 dX0_says_10 (Nat.le_of_ble_eq_true rfl) rfl (Nat.le_of_ble_eq_true rfl) (Nat.le_of_ble_eq_true rfl) (Nat.le_of_ble_eq_true rfl) (pX0_isIn ?_)
      refine r_if_ne 23 dX0_says_13 (by decide) (fun _ => ?_) (fun c_ => absurd c_ (in5 hq))
      refine r_aload_n dX0_says_23 rfl ?_
      refine r_get bX0 8 (by decide) q254 dX0_says_24 rfl rfl ?_
      refine r_iload_n dX0_says_27 rfl ?_
      refine r_aald_sheet dX0_says_28 rfl (vp_in_nI (by omega) (by omega)) ?_
      rw [nI_clamp (by omega)]
      refine r_get bX4 0 (by decide) q242 dX0_says_29 (sh_at hj) rfl ?_
      rw [e1]
      refine r_astore_n dX0_says_32 (Nat.le_of_ble_eq_true rfl) ?_
      refine r_aload_n dX0_says_33 rfl ?_
      refine r_ifnonnull 44 dX0_says_34 (by decide) ?_
      refine r_iload_n dX0_says_44 rfl ?_
      refine r_tableIn 114 dX0_says_45 (by decide) (by decide) rfl (by decide) ?_
      refine r_aload_n dX0_says_114 rfl ?_
      refine r_aload_n dX0_says_115 rfl ?_
      refine r_castNo (isA_obj bX7 (hg _)) nc_Looker_Greedy (clQ_ok 0) (clQ_ok 3) q644 dX0_says_116 (Nat.le_of_ble_eq_true rfl) (Nat.le_of_ble_eq_true rfl) (Nat.le_of_ble_eq_true rfl) (rt_catch (hp := 141) (fun G hG => srS (by decide) (srS (by decide) (srS (by decide) (srY (by decide) (by decide) q528 q540)))) ?_)
      refine r_astore dX0_says_141 (Nat.le_of_ble_eq_true rfl) ?_
      refine r_aload_n dX0_says_143 rfl ?_
      refine r_bipush (-3) dX0_says_144 (by decide) ?_
      refine r_callV (as := [_]) okX0_no bX0 rfl rfl q381 dX0_says_146 (Nat.le_of_ble_eq_true rfl) rfl (Nat.le_of_ble_eq_true rfl) (Nat.le_of_ble_eq_true rfl) (Nat.le_of_ble_eq_true rfl) (pX0_no 3 (by decide) (by decide) ?_)
      exact r_iret dX0_says_149 rfl (Nat.le_of_ble_eq_true rfl) (Nat.le_of_ble_eq_true rfl) (hQ _)
    · have hQ := hbad (by decide)
      refine r_iload_n dX0_says_0 rfl ?_
      refine r_callS (as := [_]) okX0_isShelf q375 dX0_says_1 (Nat.le_of_ble_eq_true rfl) rfl (Nat.le_of_ble_eq_true rfl) (Nat.le_of_ble_eq_true rfl) (Nat.le_of_ble_eq_true rfl) (pX0_isShelf ?_)
      refine r_if_eq 16 dX0_says_4 (by decide) (fun c_ => absurd c_ (in8 hj)) (fun _ => ?_)
      refine r_iload_n dX0_says_7 rfl ?_
      refine r_iconst 0 dX0_says_8 (by decide) ?_
      refine r_iconst 5 dX0_says_9 (by decide) ?_
      refine r_callS (as := [_, _, _]) okX0_isIn q378 dX0_says_10 (Nat.le_of_ble_eq_true rfl) rfl (Nat.le_of_ble_eq_true rfl) (Nat.le_of_ble_eq_true rfl) (Nat.le_of_ble_eq_true rfl) (pX0_isIn ?_)
      refine r_if_ne 23 dX0_says_13 (by decide) (fun _ => ?_) (fun c_ => absurd c_ (in5 hq))
      refine r_aload_n dX0_says_23 rfl ?_
      refine r_get bX0 8 (by decide) q254 dX0_says_24 rfl rfl ?_
      refine r_iload_n dX0_says_27 rfl ?_
      refine r_aald_sheet dX0_says_28 rfl (vp_in_nI (by omega) (by omega)) ?_
      rw [nI_clamp (by omega)]
      refine r_get bX4 0 (by decide) q242 dX0_says_29 (sh_at hj) rfl ?_
      rw [e1]
      refine r_astore_n dX0_says_32 (Nat.le_of_ble_eq_true rfl) ?_
      refine r_aload_n dX0_says_33 rfl ?_
      refine r_ifnonnull 44 dX0_says_34 (by decide) ?_
      refine r_iload_n dX0_says_44 rfl ?_
      refine r_tableIn 114 dX0_says_45 (by decide) (by decide) rfl (by decide) ?_
      refine r_aload_n dX0_says_114 rfl ?_
      refine r_aload_n dX0_says_115 rfl ?_
      refine r_castNo (isA_obj bX8 (hg _)) nc_Child_Greedy (clQ_ok 1) (clQ_ok 3) q644 dX0_says_116 (Nat.le_of_ble_eq_true rfl) (Nat.le_of_ble_eq_true rfl) (Nat.le_of_ble_eq_true rfl) (rt_catch (hp := 141) (fun G hG => srS (by decide) (srS (by decide) (srS (by decide) (srY (by decide) (by decide) q528 q540)))) ?_)
      refine r_astore dX0_says_141 (Nat.le_of_ble_eq_true rfl) ?_
      refine r_aload_n dX0_says_143 rfl ?_
      refine r_bipush (-3) dX0_says_144 (by decide) ?_
      refine r_callV (as := [_]) okX0_no bX0 rfl rfl q381 dX0_says_146 (Nat.le_of_ble_eq_true rfl) rfl (Nat.le_of_ble_eq_true rfl) (Nat.le_of_ble_eq_true rfl) (Nat.le_of_ble_eq_true rfl) (pX0_no 3 (by decide) (by decide) ?_)
      exact r_iret dX0_says_149 rfl (Nat.le_of_ble_eq_true rfl) (Nat.le_of_ble_eq_true rfl) (hQ _)
    · have hQ := hbad (by decide)
      refine r_iload_n dX0_says_0 rfl ?_
      refine r_callS (as := [_]) okX0_isShelf q375 dX0_says_1 (Nat.le_of_ble_eq_true rfl) rfl (Nat.le_of_ble_eq_true rfl) (Nat.le_of_ble_eq_true rfl) (Nat.le_of_ble_eq_true rfl) (pX0_isShelf ?_)
      refine r_if_eq 16 dX0_says_4 (by decide) (fun c_ => absurd c_ (in8 hj)) (fun _ => ?_)
      refine r_iload_n dX0_says_7 rfl ?_
      refine r_iconst 0 dX0_says_8 (by decide) ?_
      refine r_iconst 5 dX0_says_9 (by decide) ?_
      refine r_callS (as := [_, _, _]) okX0_isIn q378 dX0_says_10 (Nat.le_of_ble_eq_true rfl) rfl (Nat.le_of_ble_eq_true rfl) (Nat.le_of_ble_eq_true rfl) (Nat.le_of_ble_eq_true rfl) (pX0_isIn ?_)
      refine r_if_ne 23 dX0_says_13 (by decide) (fun _ => ?_) (fun c_ => absurd c_ (in5 hq))
      refine r_aload_n dX0_says_23 rfl ?_
      refine r_get bX0 8 (by decide) q254 dX0_says_24 rfl rfl ?_
      refine r_iload_n dX0_says_27 rfl ?_
      refine r_aald_sheet dX0_says_28 rfl (vp_in_nI (by omega) (by omega)) ?_
      rw [nI_clamp (by omega)]
      refine r_get bX4 0 (by decide) q242 dX0_says_29 (sh_at hj) rfl ?_
      rw [e1]
      refine r_astore_n dX0_says_32 (Nat.le_of_ble_eq_true rfl) ?_
      refine r_aload_n dX0_says_33 rfl ?_
      refine r_ifnonnull 44 dX0_says_34 (by decide) ?_
      refine r_iload_n dX0_says_44 rfl ?_
      refine r_tableIn 114 dX0_says_45 (by decide) (by decide) rfl (by decide) ?_
      refine r_aload_n dX0_says_114 rfl ?_
      refine r_aload_n dX0_says_115 rfl ?_
      refine r_castNo (isA_obj bX9 (hg _)) nc_Old_Greedy (clQ_ok 2) (clQ_ok 3) q644 dX0_says_116 (Nat.le_of_ble_eq_true rfl) (Nat.le_of_ble_eq_true rfl) (Nat.le_of_ble_eq_true rfl) (rt_catch (hp := 141) (fun G hG => srS (by decide) (srS (by decide) (srS (by decide) (srY (by decide) (by decide) q528 q540)))) ?_)
      refine r_astore dX0_says_141 (Nat.le_of_ble_eq_true rfl) ?_
      refine r_aload_n dX0_says_143 rfl ?_
      refine r_bipush (-3) dX0_says_144 (by decide) ?_
      refine r_callV (as := [_]) okX0_no bX0 rfl rfl q381 dX0_says_146 (Nat.le_of_ble_eq_true rfl) rfl (Nat.le_of_ble_eq_true rfl) (Nat.le_of_ble_eq_true rfl) (Nat.le_of_ble_eq_true rfl) (pX0_no 3 (by decide) (by decide) ?_)
      exact r_iret dX0_says_149 rfl (Nat.le_of_ble_eq_true rfl) (Nat.le_of_ble_eq_true rfl) (hQ _)
    · have hq3 := hok (by decide) (by decide)
      refine r_iload_n dX0_says_0 rfl ?_
      refine r_callS (as := [_]) okX0_isShelf q375 dX0_says_1 (Nat.le_of_ble_eq_true rfl) rfl (Nat.le_of_ble_eq_true rfl) (Nat.le_of_ble_eq_true rfl) (Nat.le_of_ble_eq_true rfl) (pX0_isShelf ?_)
      refine r_if_eq 16 dX0_says_4 (by decide) (fun c_ => absurd c_ (in8 hj)) (fun _ => ?_)
      refine r_iload_n dX0_says_7 rfl ?_
      refine r_iconst 0 dX0_says_8 (by decide) ?_
      refine r_iconst 5 dX0_says_9 (by decide) ?_
      refine r_callS (as := [_, _, _]) okX0_isIn q378 dX0_says_10 (Nat.le_of_ble_eq_true rfl) rfl (Nat.le_of_ble_eq_true rfl) (Nat.le_of_ble_eq_true rfl) (Nat.le_of_ble_eq_true rfl) (pX0_isIn ?_)
      refine r_if_ne 23 dX0_says_13 (by decide) (fun _ => ?_) (fun c_ => absurd c_ (in5 hq))
      refine r_aload_n dX0_says_23 rfl ?_
      refine r_get bX0 8 (by decide) q254 dX0_says_24 rfl rfl ?_
      refine r_iload_n dX0_says_27 rfl ?_
      refine r_aald_sheet dX0_says_28 rfl (vp_in_nI (by omega) (by omega)) ?_
      rw [nI_clamp (by omega)]
      refine r_get bX4 0 (by decide) q242 dX0_says_29 (sh_at hj) rfl ?_
      rw [e1]
      refine r_astore_n dX0_says_32 (Nat.le_of_ble_eq_true rfl) ?_
      refine r_aload_n dX0_says_33 rfl ?_
      refine r_ifnonnull 44 dX0_says_34 (by decide) ?_
      refine r_iload_n dX0_says_44 rfl ?_
      refine r_tableIn 114 dX0_says_45 (by decide) (by decide) rfl (by decide) ?_
      refine r_aload_n dX0_says_114 rfl ?_
      refine r_aload_n dX0_says_115 rfl ?_
      refine r_castE (isA_obj bX10 (hg _)) q644 dX0_says_116 ?_
      refine r_callV (as := [_]) okX0_alone bX0 rfl rfl q543 dX0_says_119 (Nat.le_of_ble_eq_true rfl) rfl (Nat.le_of_ble_eq_true rfl) (Nat.le_of_ble_eq_true rfl) (Nat.le_of_ble_eq_true rfl) (pX0_alone hn hL hP hx hc hg (fun eP eT eF ef eg ew => ?_))
      exact r_iret dX0_says_122 rfl (Nat.le_of_ble_eq_true rfl) (Nat.le_of_ble_eq_true rfl) (hq3 _ _ _ _ _ _)
    · have hQ := hbad (by decide)
      refine r_iload_n dX0_says_0 rfl ?_
      refine r_callS (as := [_]) okX0_isShelf q375 dX0_says_1 (Nat.le_of_ble_eq_true rfl) rfl (Nat.le_of_ble_eq_true rfl) (Nat.le_of_ble_eq_true rfl) (Nat.le_of_ble_eq_true rfl) (pX0_isShelf ?_)
      refine r_if_eq 16 dX0_says_4 (by decide) (fun c_ => absurd c_ (in8 hj)) (fun _ => ?_)
      refine r_iload_n dX0_says_7 rfl ?_
      refine r_iconst 0 dX0_says_8 (by decide) ?_
      refine r_iconst 5 dX0_says_9 (by decide) ?_
      refine r_callS (as := [_, _, _]) okX0_isIn q378 dX0_says_10 (Nat.le_of_ble_eq_true rfl) rfl (Nat.le_of_ble_eq_true rfl) (Nat.le_of_ble_eq_true rfl) (Nat.le_of_ble_eq_true rfl) (pX0_isIn ?_)
      refine r_if_ne 23 dX0_says_13 (by decide) (fun _ => ?_) (fun c_ => absurd c_ (in5 hq))
      refine r_aload_n dX0_says_23 rfl ?_
      refine r_get bX0 8 (by decide) q254 dX0_says_24 rfl rfl ?_
      refine r_iload_n dX0_says_27 rfl ?_
      refine r_aald_sheet dX0_says_28 rfl (vp_in_nI (by omega) (by omega)) ?_
      rw [nI_clamp (by omega)]
      refine r_get bX4 0 (by decide) q242 dX0_says_29 (sh_at hj) rfl ?_
      rw [e1]
      refine r_astore_n dX0_says_32 (Nat.le_of_ble_eq_true rfl) ?_
      refine r_aload_n dX0_says_33 rfl ?_
      refine r_ifnonnull 44 dX0_says_34 (by decide) ?_
      refine r_iload_n dX0_says_44 rfl ?_
      refine r_tableIn 114 dX0_says_45 (by decide) (by decide) rfl (by decide) ?_
      refine r_aload_n dX0_says_114 rfl ?_
      refine r_aload_n dX0_says_115 rfl ?_
      refine r_castNo (isA_obj bX11 (hg _)) nc_Giver_Greedy (clQ_ok 4) (clQ_ok 3) q644 dX0_says_116 (Nat.le_of_ble_eq_true rfl) (Nat.le_of_ble_eq_true rfl) (Nat.le_of_ble_eq_true rfl) (rt_catch (hp := 141) (fun G hG => srS (by decide) (srS (by decide) (srS (by decide) (srY (by decide) (by decide) q528 q540)))) ?_)
      refine r_astore dX0_says_141 (Nat.le_of_ble_eq_true rfl) ?_
      refine r_aload_n dX0_says_143 rfl ?_
      refine r_bipush (-3) dX0_says_144 (by decide) ?_
      refine r_callV (as := [_]) okX0_no bX0 rfl rfl q381 dX0_says_146 (Nat.le_of_ble_eq_true rfl) rfl (Nat.le_of_ble_eq_true rfl) (Nat.le_of_ble_eq_true rfl) (Nat.le_of_ble_eq_true rfl) (pX0_no 3 (by decide) (by decide) ?_)
      exact r_iret dX0_says_149 rfl (Nat.le_of_ble_eq_true rfl) (Nat.le_of_ble_eq_true rfl) (hQ _)
    · have hQ := hbad (by decide)
      refine r_iload_n dX0_says_0 rfl ?_
      refine r_callS (as := [_]) okX0_isShelf q375 dX0_says_1 (Nat.le_of_ble_eq_true rfl) rfl (Nat.le_of_ble_eq_true rfl) (Nat.le_of_ble_eq_true rfl) (Nat.le_of_ble_eq_true rfl) (pX0_isShelf ?_)
      refine r_if_eq 16 dX0_says_4 (by decide) (fun c_ => absurd c_ (in8 hj)) (fun _ => ?_)
      refine r_iload_n dX0_says_7 rfl ?_
      refine r_iconst 0 dX0_says_8 (by decide) ?_
      refine r_iconst 5 dX0_says_9 (by decide) ?_
      refine r_callS (as := [_, _, _]) okX0_isIn q378 dX0_says_10 (Nat.le_of_ble_eq_true rfl) rfl (Nat.le_of_ble_eq_true rfl) (Nat.le_of_ble_eq_true rfl) (Nat.le_of_ble_eq_true rfl) (pX0_isIn ?_)
      refine r_if_ne 23 dX0_says_13 (by decide) (fun _ => ?_) (fun c_ => absurd c_ (in5 hq))
      refine r_aload_n dX0_says_23 rfl ?_
      refine r_get bX0 8 (by decide) q254 dX0_says_24 rfl rfl ?_
      refine r_iload_n dX0_says_27 rfl ?_
      refine r_aald_sheet dX0_says_28 rfl (vp_in_nI (by omega) (by omega)) ?_
      rw [nI_clamp (by omega)]
      refine r_get bX4 0 (by decide) q242 dX0_says_29 (sh_at hj) rfl ?_
      rw [e1]
      refine r_astore_n dX0_says_32 (Nat.le_of_ble_eq_true rfl) ?_
      refine r_aload_n dX0_says_33 rfl ?_
      refine r_ifnonnull 44 dX0_says_34 (by decide) ?_
      refine r_iload_n dX0_says_44 rfl ?_
      refine r_tableIn 114 dX0_says_45 (by decide) (by decide) rfl (by decide) ?_
      refine r_aload_n dX0_says_114 rfl ?_
      refine r_aload_n dX0_says_115 rfl ?_
      refine r_castNo (isA_obj bX12 (hg _)) nc_Shy_Greedy (clQ_ok 5) (clQ_ok 3) q644 dX0_says_116 (Nat.le_of_ble_eq_true rfl) (Nat.le_of_ble_eq_true rfl) (Nat.le_of_ble_eq_true rfl) (rt_catch (hp := 141) (fun G hG => srS (by decide) (srS (by decide) (srS (by decide) (srY (by decide) (by decide) q528 q540)))) ?_)
      refine r_astore dX0_says_141 (Nat.le_of_ble_eq_true rfl) ?_
      refine r_aload_n dX0_says_143 rfl ?_
      refine r_bipush (-3) dX0_says_144 (by decide) ?_
      refine r_callV (as := [_]) okX0_no bX0 rfl rfl q381 dX0_says_146 (Nat.le_of_ble_eq_true rfl) rfl (Nat.le_of_ble_eq_true rfl) (Nat.le_of_ble_eq_true rfl) (Nat.le_of_ble_eq_true rfl) (pX0_no 3 (by decide) (by decide) ?_)
      exact r_iret dX0_says_149 rfl (Nat.le_of_ble_eq_true rfl) (Nat.le_of_ble_eq_true rfl) (hQ _)
  · rcases (show c = 0 ∨ c = 1 ∨ c = 2 ∨ c = 3 ∨ c = 4 ∨ c = 5 by omega) with rfl | rfl | rfl | rfl | rfl | rfl
    · have hQ := hbad (by decide)
      refine r_iload_n dX0_says_0 rfl ?_
      refine r_callS (as := [_]) okX0_isShelf q375 dX0_says_1 (Nat.le_of_ble_eq_true rfl) rfl (Nat.le_of_ble_eq_true rfl) (Nat.le_of_ble_eq_true rfl) (Nat.le_of_ble_eq_true rfl) (pX0_isShelf ?_)
      refine r_if_eq 16 dX0_says_4 (by decide) (fun c_ => absurd c_ (in8 hj)) (fun _ => ?_)
      refine r_iload_n dX0_says_7 rfl ?_
      refine r_iconst 0 dX0_says_8 (by decide) ?_
      refine r_iconst 5 dX0_says_9 (by decide) ?_
      refine r_callS (as := [_, _, _]) okX0_isIn q378 dX0_says_10 (Nat.le_of_ble_eq_true rfl) rfl (Nat.le_of_ble_eq_true rfl) (Nat.le_of_ble_eq_true rfl) (Nat.le_of_ble_eq_true rfl) (pX0_isIn ?_)
      refine r_if_ne 23 dX0_says_13 (by decide) (fun _ => ?_) (fun c_ => absurd c_ (in5 hq))
      refine r_aload_n dX0_says_23 rfl ?_
      refine r_get bX0 8 (by decide) q254 dX0_says_24 rfl rfl ?_
      refine r_iload_n dX0_says_27 rfl ?_
      refine r_aald_sheet dX0_says_28 rfl (vp_in_nI (by omega) (by omega)) ?_
      rw [nI_clamp (by omega)]
      refine r_get bX4 0 (by decide) q242 dX0_says_29 (sh_at hj) rfl ?_
      rw [e1]
      refine r_astore_n dX0_says_32 (Nat.le_of_ble_eq_true rfl) ?_
      refine r_aload_n dX0_says_33 rfl ?_
      refine r_ifnonnull 44 dX0_says_34 (by decide) ?_
      refine r_iload_n dX0_says_44 rfl ?_
      refine r_tableIn 123 dX0_says_45 (by decide) (by decide) rfl (by decide) ?_
      refine r_aload_n dX0_says_123 rfl ?_
      refine r_aload_n dX0_says_124 rfl ?_
      refine r_castNo (isA_obj bX7 (hg _)) nc_Looker_Giver (clQ_ok 0) (clQ_ok 4) q645 dX0_says_125 (Nat.le_of_ble_eq_true rfl) (Nat.le_of_ble_eq_true rfl) (Nat.le_of_ble_eq_true rfl) (rt_catch (hp := 141) (fun G hG => srS (by decide) (srS (by decide) (srS (by decide) (srS (by decide) (srY (by decide) (by decide) q528 q540))))) ?_)
      refine r_astore dX0_says_141 (Nat.le_of_ble_eq_true rfl) ?_
      refine r_aload_n dX0_says_143 rfl ?_
      refine r_bipush (-3) dX0_says_144 (by decide) ?_
      refine r_callV (as := [_]) okX0_no bX0 rfl rfl q381 dX0_says_146 (Nat.le_of_ble_eq_true rfl) rfl (Nat.le_of_ble_eq_true rfl) (Nat.le_of_ble_eq_true rfl) (Nat.le_of_ble_eq_true rfl) (pX0_no 3 (by decide) (by decide) ?_)
      exact r_iret dX0_says_149 rfl (Nat.le_of_ble_eq_true rfl) (Nat.le_of_ble_eq_true rfl) (hQ _)
    · have hQ := hbad (by decide)
      refine r_iload_n dX0_says_0 rfl ?_
      refine r_callS (as := [_]) okX0_isShelf q375 dX0_says_1 (Nat.le_of_ble_eq_true rfl) rfl (Nat.le_of_ble_eq_true rfl) (Nat.le_of_ble_eq_true rfl) (Nat.le_of_ble_eq_true rfl) (pX0_isShelf ?_)
      refine r_if_eq 16 dX0_says_4 (by decide) (fun c_ => absurd c_ (in8 hj)) (fun _ => ?_)
      refine r_iload_n dX0_says_7 rfl ?_
      refine r_iconst 0 dX0_says_8 (by decide) ?_
      refine r_iconst 5 dX0_says_9 (by decide) ?_
      refine r_callS (as := [_, _, _]) okX0_isIn q378 dX0_says_10 (Nat.le_of_ble_eq_true rfl) rfl (Nat.le_of_ble_eq_true rfl) (Nat.le_of_ble_eq_true rfl) (Nat.le_of_ble_eq_true rfl) (pX0_isIn ?_)
      refine r_if_ne 23 dX0_says_13 (by decide) (fun _ => ?_) (fun c_ => absurd c_ (in5 hq))
      refine r_aload_n dX0_says_23 rfl ?_
      refine r_get bX0 8 (by decide) q254 dX0_says_24 rfl rfl ?_
      refine r_iload_n dX0_says_27 rfl ?_
      refine r_aald_sheet dX0_says_28 rfl (vp_in_nI (by omega) (by omega)) ?_
      rw [nI_clamp (by omega)]
      refine r_get bX4 0 (by decide) q242 dX0_says_29 (sh_at hj) rfl ?_
      rw [e1]
      refine r_astore_n dX0_says_32 (Nat.le_of_ble_eq_true rfl) ?_
      refine r_aload_n dX0_says_33 rfl ?_
      refine r_ifnonnull 44 dX0_says_34 (by decide) ?_
      refine r_iload_n dX0_says_44 rfl ?_
      refine r_tableIn 123 dX0_says_45 (by decide) (by decide) rfl (by decide) ?_
      refine r_aload_n dX0_says_123 rfl ?_
      refine r_aload_n dX0_says_124 rfl ?_
      refine r_castNo (isA_obj bX8 (hg _)) nc_Child_Giver (clQ_ok 1) (clQ_ok 4) q645 dX0_says_125 (Nat.le_of_ble_eq_true rfl) (Nat.le_of_ble_eq_true rfl) (Nat.le_of_ble_eq_true rfl) (rt_catch (hp := 141) (fun G hG => srS (by decide) (srS (by decide) (srS (by decide) (srS (by decide) (srY (by decide) (by decide) q528 q540))))) ?_)
      refine r_astore dX0_says_141 (Nat.le_of_ble_eq_true rfl) ?_
      refine r_aload_n dX0_says_143 rfl ?_
      refine r_bipush (-3) dX0_says_144 (by decide) ?_
      refine r_callV (as := [_]) okX0_no bX0 rfl rfl q381 dX0_says_146 (Nat.le_of_ble_eq_true rfl) rfl (Nat.le_of_ble_eq_true rfl) (Nat.le_of_ble_eq_true rfl) (Nat.le_of_ble_eq_true rfl) (pX0_no 3 (by decide) (by decide) ?_)
      exact r_iret dX0_says_149 rfl (Nat.le_of_ble_eq_true rfl) (Nat.le_of_ble_eq_true rfl) (hQ _)
    · have hQ := hbad (by decide)
      refine r_iload_n dX0_says_0 rfl ?_
      refine r_callS (as := [_]) okX0_isShelf q375 dX0_says_1 (Nat.le_of_ble_eq_true rfl) rfl (Nat.le_of_ble_eq_true rfl) (Nat.le_of_ble_eq_true rfl) (Nat.le_of_ble_eq_true rfl) (pX0_isShelf ?_)
      refine r_if_eq 16 dX0_says_4 (by decide) (fun c_ => absurd c_ (in8 hj)) (fun _ => ?_)
      refine r_iload_n dX0_says_7 rfl ?_
      refine r_iconst 0 dX0_says_8 (by decide) ?_
      refine r_iconst 5 dX0_says_9 (by decide) ?_
      refine r_callS (as := [_, _, _]) okX0_isIn q378 dX0_says_10 (Nat.le_of_ble_eq_true rfl) rfl (Nat.le_of_ble_eq_true rfl) (Nat.le_of_ble_eq_true rfl) (Nat.le_of_ble_eq_true rfl) (pX0_isIn ?_)
      refine r_if_ne 23 dX0_says_13 (by decide) (fun _ => ?_) (fun c_ => absurd c_ (in5 hq))
      refine r_aload_n dX0_says_23 rfl ?_
      refine r_get bX0 8 (by decide) q254 dX0_says_24 rfl rfl ?_
      refine r_iload_n dX0_says_27 rfl ?_
      refine r_aald_sheet dX0_says_28 rfl (vp_in_nI (by omega) (by omega)) ?_
      rw [nI_clamp (by omega)]
      refine r_get bX4 0 (by decide) q242 dX0_says_29 (sh_at hj) rfl ?_
      rw [e1]
      refine r_astore_n dX0_says_32 (Nat.le_of_ble_eq_true rfl) ?_
      refine r_aload_n dX0_says_33 rfl ?_
      refine r_ifnonnull 44 dX0_says_34 (by decide) ?_
      refine r_iload_n dX0_says_44 rfl ?_
      refine r_tableIn 123 dX0_says_45 (by decide) (by decide) rfl (by decide) ?_
      refine r_aload_n dX0_says_123 rfl ?_
      refine r_aload_n dX0_says_124 rfl ?_
      refine r_castNo (isA_obj bX9 (hg _)) nc_Old_Giver (clQ_ok 2) (clQ_ok 4) q645 dX0_says_125 (Nat.le_of_ble_eq_true rfl) (Nat.le_of_ble_eq_true rfl) (Nat.le_of_ble_eq_true rfl) (rt_catch (hp := 141) (fun G hG => srS (by decide) (srS (by decide) (srS (by decide) (srS (by decide) (srY (by decide) (by decide) q528 q540))))) ?_)
      refine r_astore dX0_says_141 (Nat.le_of_ble_eq_true rfl) ?_
      refine r_aload_n dX0_says_143 rfl ?_
      refine r_bipush (-3) dX0_says_144 (by decide) ?_
      refine r_callV (as := [_]) okX0_no bX0 rfl rfl q381 dX0_says_146 (Nat.le_of_ble_eq_true rfl) rfl (Nat.le_of_ble_eq_true rfl) (Nat.le_of_ble_eq_true rfl) (Nat.le_of_ble_eq_true rfl) (pX0_no 3 (by decide) (by decide) ?_)
      exact r_iret dX0_says_149 rfl (Nat.le_of_ble_eq_true rfl) (Nat.le_of_ble_eq_true rfl) (hQ _)
    · have hQ := hbad (by decide)
      refine r_iload_n dX0_says_0 rfl ?_
      refine r_callS (as := [_]) okX0_isShelf q375 dX0_says_1 (Nat.le_of_ble_eq_true rfl) rfl (Nat.le_of_ble_eq_true rfl) (Nat.le_of_ble_eq_true rfl) (Nat.le_of_ble_eq_true rfl) (pX0_isShelf ?_)
      refine r_if_eq 16 dX0_says_4 (by decide) (fun c_ => absurd c_ (in8 hj)) (fun _ => ?_)
      refine r_iload_n dX0_says_7 rfl ?_
      refine r_iconst 0 dX0_says_8 (by decide) ?_
      refine r_iconst 5 dX0_says_9 (by decide) ?_
      refine r_callS (as := [_, _, _]) okX0_isIn q378 dX0_says_10 (Nat.le_of_ble_eq_true rfl) rfl (Nat.le_of_ble_eq_true rfl) (Nat.le_of_ble_eq_true rfl) (Nat.le_of_ble_eq_true rfl) (pX0_isIn ?_)
      refine r_if_ne 23 dX0_says_13 (by decide) (fun _ => ?_) (fun c_ => absurd c_ (in5 hq))
      refine r_aload_n dX0_says_23 rfl ?_
      refine r_get bX0 8 (by decide) q254 dX0_says_24 rfl rfl ?_
      refine r_iload_n dX0_says_27 rfl ?_
      refine r_aald_sheet dX0_says_28 rfl (vp_in_nI (by omega) (by omega)) ?_
      rw [nI_clamp (by omega)]
      refine r_get bX4 0 (by decide) q242 dX0_says_29 (sh_at hj) rfl ?_
      rw [e1]
      refine r_astore_n dX0_says_32 (Nat.le_of_ble_eq_true rfl) ?_
      refine r_aload_n dX0_says_33 rfl ?_
      refine r_ifnonnull 44 dX0_says_34 (by decide) ?_
      refine r_iload_n dX0_says_44 rfl ?_
      refine r_tableIn 123 dX0_says_45 (by decide) (by decide) rfl (by decide) ?_
      refine r_aload_n dX0_says_123 rfl ?_
      refine r_aload_n dX0_says_124 rfl ?_
      refine r_castNo (isA_obj bX10 (hg _)) nc_Greedy_Giver (clQ_ok 3) (clQ_ok 4) q645 dX0_says_125 (Nat.le_of_ble_eq_true rfl) (Nat.le_of_ble_eq_true rfl) (Nat.le_of_ble_eq_true rfl) (rt_catch (hp := 141) (fun G hG => srS (by decide) (srS (by decide) (srS (by decide) (srS (by decide) (srY (by decide) (by decide) q528 q540))))) ?_)
      refine r_astore dX0_says_141 (Nat.le_of_ble_eq_true rfl) ?_
      refine r_aload_n dX0_says_143 rfl ?_
      refine r_bipush (-3) dX0_says_144 (by decide) ?_
      refine r_callV (as := [_]) okX0_no bX0 rfl rfl q381 dX0_says_146 (Nat.le_of_ble_eq_true rfl) rfl (Nat.le_of_ble_eq_true rfl) (Nat.le_of_ble_eq_true rfl) (Nat.le_of_ble_eq_true rfl) (pX0_no 3 (by decide) (by decide) ?_)
      exact r_iret dX0_says_149 rfl (Nat.le_of_ble_eq_true rfl) (Nat.le_of_ble_eq_true rfl) (hQ _)
    · have hq3 := hok (by decide) (by decide)
      refine r_iload_n dX0_says_0 rfl ?_
      refine r_callS (as := [_]) okX0_isShelf q375 dX0_says_1 (Nat.le_of_ble_eq_true rfl) rfl (Nat.le_of_ble_eq_true rfl) (Nat.le_of_ble_eq_true rfl) (Nat.le_of_ble_eq_true rfl) (pX0_isShelf ?_)
      refine r_if_eq 16 dX0_says_4 (by decide) (fun c_ => absurd c_ (in8 hj)) (fun _ => ?_)
      refine r_iload_n dX0_says_7 rfl ?_
      refine r_iconst 0 dX0_says_8 (by decide) ?_
      refine r_iconst 5 dX0_says_9 (by decide) ?_
      refine r_callS (as := [_, _, _]) okX0_isIn q378 dX0_says_10 (Nat.le_of_ble_eq_true rfl) rfl (Nat.le_of_ble_eq_true rfl) (Nat.le_of_ble_eq_true rfl) (Nat.le_of_ble_eq_true rfl) (pX0_isIn ?_)
      refine r_if_ne 23 dX0_says_13 (by decide) (fun _ => ?_) (fun c_ => absurd c_ (in5 hq))
      refine r_aload_n dX0_says_23 rfl ?_
      refine r_get bX0 8 (by decide) q254 dX0_says_24 rfl rfl ?_
      refine r_iload_n dX0_says_27 rfl ?_
      refine r_aald_sheet dX0_says_28 rfl (vp_in_nI (by omega) (by omega)) ?_
      rw [nI_clamp (by omega)]
      refine r_get bX4 0 (by decide) q242 dX0_says_29 (sh_at hj) rfl ?_
      rw [e1]
      refine r_astore_n dX0_says_32 (Nat.le_of_ble_eq_true rfl) ?_
      refine r_aload_n dX0_says_33 rfl ?_
      refine r_ifnonnull 44 dX0_says_34 (by decide) ?_
      refine r_iload_n dX0_says_44 rfl ?_
      refine r_tableIn 123 dX0_says_45 (by decide) (by decide) rfl (by decide) ?_
      refine r_aload_n dX0_says_123 rfl ?_
      refine r_aload_n dX0_says_124 rfl ?_
      refine r_castE (isA_obj bX11 (hg _)) q645 dX0_says_125 ?_
      refine r_callV (as := [_]) okX0_alone bX0 rfl rfl q543 dX0_says_128 (Nat.le_of_ble_eq_true rfl) rfl (Nat.le_of_ble_eq_true rfl) (Nat.le_of_ble_eq_true rfl) (Nat.le_of_ble_eq_true rfl) (pX0_alone hn hL hP hx hc hg (fun eP eT eF ef eg ew => ?_))
      exact r_iret dX0_says_131 rfl (Nat.le_of_ble_eq_true rfl) (Nat.le_of_ble_eq_true rfl) (hq3 _ _ _ _ _ _)
    · have hQ := hbad (by decide)
      refine r_iload_n dX0_says_0 rfl ?_
      refine r_callS (as := [_]) okX0_isShelf q375 dX0_says_1 (Nat.le_of_ble_eq_true rfl) rfl (Nat.le_of_ble_eq_true rfl) (Nat.le_of_ble_eq_true rfl) (Nat.le_of_ble_eq_true rfl) (pX0_isShelf ?_)
      refine r_if_eq 16 dX0_says_4 (by decide) (fun c_ => absurd c_ (in8 hj)) (fun _ => ?_)
      refine r_iload_n dX0_says_7 rfl ?_
      refine r_iconst 0 dX0_says_8 (by decide) ?_
      refine r_iconst 5 dX0_says_9 (by decide) ?_
      refine r_callS (as := [_, _, _]) okX0_isIn q378 dX0_says_10 (Nat.le_of_ble_eq_true rfl) rfl (Nat.le_of_ble_eq_true rfl) (Nat.le_of_ble_eq_true rfl) (Nat.le_of_ble_eq_true rfl) (pX0_isIn ?_)
      refine r_if_ne 23 dX0_says_13 (by decide) (fun _ => ?_) (fun c_ => absurd c_ (in5 hq))
      refine r_aload_n dX0_says_23 rfl ?_
      refine r_get bX0 8 (by decide) q254 dX0_says_24 rfl rfl ?_
      refine r_iload_n dX0_says_27 rfl ?_
      refine r_aald_sheet dX0_says_28 rfl (vp_in_nI (by omega) (by omega)) ?_
      rw [nI_clamp (by omega)]
      refine r_get bX4 0 (by decide) q242 dX0_says_29 (sh_at hj) rfl ?_
      rw [e1]
      refine r_astore_n dX0_says_32 (Nat.le_of_ble_eq_true rfl) ?_
      refine r_aload_n dX0_says_33 rfl ?_
      refine r_ifnonnull 44 dX0_says_34 (by decide) ?_
      refine r_iload_n dX0_says_44 rfl ?_
      refine r_tableIn 123 dX0_says_45 (by decide) (by decide) rfl (by decide) ?_
      refine r_aload_n dX0_says_123 rfl ?_
      refine r_aload_n dX0_says_124 rfl ?_
      refine r_castNo (isA_obj bX12 (hg _)) nc_Shy_Giver (clQ_ok 5) (clQ_ok 4) q645 dX0_says_125 (Nat.le_of_ble_eq_true rfl) (Nat.le_of_ble_eq_true rfl) (Nat.le_of_ble_eq_true rfl) (rt_catch (hp := 141) (fun G hG => srS (by decide) (srS (by decide) (srS (by decide) (srS (by decide) (srY (by decide) (by decide) q528 q540))))) ?_)
      refine r_astore dX0_says_141 (Nat.le_of_ble_eq_true rfl) ?_
      refine r_aload_n dX0_says_143 rfl ?_
      refine r_bipush (-3) dX0_says_144 (by decide) ?_
      refine r_callV (as := [_]) okX0_no bX0 rfl rfl q381 dX0_says_146 (Nat.le_of_ble_eq_true rfl) rfl (Nat.le_of_ble_eq_true rfl) (Nat.le_of_ble_eq_true rfl) (Nat.le_of_ble_eq_true rfl) (pX0_no 3 (by decide) (by decide) ?_)
      exact r_iret dX0_says_149 rfl (Nat.le_of_ble_eq_true rfl) (Nat.le_of_ble_eq_true rfl) (hQ _)
  · rcases (show c = 0 ∨ c = 1 ∨ c = 2 ∨ c = 3 ∨ c = 4 ∨ c = 5 by omega) with rfl | rfl | rfl | rfl | rfl | rfl
    · have hQ := hbad (by decide)
      refine r_iload_n dX0_says_0 rfl ?_
      refine r_callS (as := [_]) okX0_isShelf q375 dX0_says_1 (Nat.le_of_ble_eq_true rfl) rfl (Nat.le_of_ble_eq_true rfl) (Nat.le_of_ble_eq_true rfl) (Nat.le_of_ble_eq_true rfl) (pX0_isShelf ?_)
      refine r_if_eq 16 dX0_says_4 (by decide) (fun c_ => absurd c_ (in8 hj)) (fun _ => ?_)
      refine r_iload_n dX0_says_7 rfl ?_
      refine r_iconst 0 dX0_says_8 (by decide) ?_
      refine r_iconst 5 dX0_says_9 (by decide) ?_
      refine r_callS (as := [_, _, _]) okX0_isIn q378 dX0_says_10 (Nat.le_of_ble_eq_true rfl) rfl (Nat.le_of_ble_eq_true rfl) (Nat.le_of_ble_eq_true rfl) (Nat.le_of_ble_eq_true rfl) (pX0_isIn ?_)
      refine r_if_ne 23 dX0_says_13 (by decide) (fun _ => ?_) (fun c_ => absurd c_ (in5 hq))
      refine r_aload_n dX0_says_23 rfl ?_
      refine r_get bX0 8 (by decide) q254 dX0_says_24 rfl rfl ?_
      refine r_iload_n dX0_says_27 rfl ?_
      refine r_aald_sheet dX0_says_28 rfl (vp_in_nI (by omega) (by omega)) ?_
      rw [nI_clamp (by omega)]
      refine r_get bX4 0 (by decide) q242 dX0_says_29 (sh_at hj) rfl ?_
      rw [e1]
      refine r_astore_n dX0_says_32 (Nat.le_of_ble_eq_true rfl) ?_
      refine r_aload_n dX0_says_33 rfl ?_
      refine r_ifnonnull 44 dX0_says_34 (by decide) ?_
      refine r_iload_n dX0_says_44 rfl ?_
      refine r_tableOut 132 dX0_says_45 (by decide) (by decide) ?_
      refine r_aload_n dX0_says_132 rfl ?_
      refine r_aload_n dX0_says_133 rfl ?_
      refine r_castNo (isA_obj bX7 (hg _)) nc_Looker_Shy (clQ_ok 0) (clQ_ok 5) q646 dX0_says_134 (Nat.le_of_ble_eq_true rfl) (Nat.le_of_ble_eq_true rfl) (Nat.le_of_ble_eq_true rfl) (rt_catch (hp := 141) (fun G hG => srS (by decide) (srS (by decide) (srS (by decide) (srS (by decide) (srS (by decide) (srY (by decide) (by decide) q528 q540)))))) ?_)
      refine r_astore dX0_says_141 (Nat.le_of_ble_eq_true rfl) ?_
      refine r_aload_n dX0_says_143 rfl ?_
      refine r_bipush (-3) dX0_says_144 (by decide) ?_
      refine r_callV (as := [_]) okX0_no bX0 rfl rfl q381 dX0_says_146 (Nat.le_of_ble_eq_true rfl) rfl (Nat.le_of_ble_eq_true rfl) (Nat.le_of_ble_eq_true rfl) (Nat.le_of_ble_eq_true rfl) (pX0_no 3 (by decide) (by decide) ?_)
      exact r_iret dX0_says_149 rfl (Nat.le_of_ble_eq_true rfl) (Nat.le_of_ble_eq_true rfl) (hQ _)
    · have hQ := hbad (by decide)
      refine r_iload_n dX0_says_0 rfl ?_
      refine r_callS (as := [_]) okX0_isShelf q375 dX0_says_1 (Nat.le_of_ble_eq_true rfl) rfl (Nat.le_of_ble_eq_true rfl) (Nat.le_of_ble_eq_true rfl) (Nat.le_of_ble_eq_true rfl) (pX0_isShelf ?_)
      refine r_if_eq 16 dX0_says_4 (by decide) (fun c_ => absurd c_ (in8 hj)) (fun _ => ?_)
      refine r_iload_n dX0_says_7 rfl ?_
      refine r_iconst 0 dX0_says_8 (by decide) ?_
      refine r_iconst 5 dX0_says_9 (by decide) ?_
      refine r_callS (as := [_, _, _]) okX0_isIn q378 dX0_says_10 (Nat.le_of_ble_eq_true rfl) rfl (Nat.le_of_ble_eq_true rfl) (Nat.le_of_ble_eq_true rfl) (Nat.le_of_ble_eq_true rfl) (pX0_isIn ?_)
      refine r_if_ne 23 dX0_says_13 (by decide) (fun _ => ?_) (fun c_ => absurd c_ (in5 hq))
      refine r_aload_n dX0_says_23 rfl ?_
      refine r_get bX0 8 (by decide) q254 dX0_says_24 rfl rfl ?_
      refine r_iload_n dX0_says_27 rfl ?_
      refine r_aald_sheet dX0_says_28 rfl (vp_in_nI (by omega) (by omega)) ?_
      rw [nI_clamp (by omega)]
      refine r_get bX4 0 (by decide) q242 dX0_says_29 (sh_at hj) rfl ?_
      rw [e1]
      refine r_astore_n dX0_says_32 (Nat.le_of_ble_eq_true rfl) ?_
      refine r_aload_n dX0_says_33 rfl ?_
      refine r_ifnonnull 44 dX0_says_34 (by decide) ?_
      refine r_iload_n dX0_says_44 rfl ?_
      refine r_tableOut 132 dX0_says_45 (by decide) (by decide) ?_
      refine r_aload_n dX0_says_132 rfl ?_
      refine r_aload_n dX0_says_133 rfl ?_
      refine r_castNo (isA_obj bX8 (hg _)) nc_Child_Shy (clQ_ok 1) (clQ_ok 5) q646 dX0_says_134 (Nat.le_of_ble_eq_true rfl) (Nat.le_of_ble_eq_true rfl) (Nat.le_of_ble_eq_true rfl) (rt_catch (hp := 141) (fun G hG => srS (by decide) (srS (by decide) (srS (by decide) (srS (by decide) (srS (by decide) (srY (by decide) (by decide) q528 q540)))))) ?_)
      refine r_astore dX0_says_141 (Nat.le_of_ble_eq_true rfl) ?_
      refine r_aload_n dX0_says_143 rfl ?_
      refine r_bipush (-3) dX0_says_144 (by decide) ?_
      refine r_callV (as := [_]) okX0_no bX0 rfl rfl q381 dX0_says_146 (Nat.le_of_ble_eq_true rfl) rfl (Nat.le_of_ble_eq_true rfl) (Nat.le_of_ble_eq_true rfl) (Nat.le_of_ble_eq_true rfl) (pX0_no 3 (by decide) (by decide) ?_)
      exact r_iret dX0_says_149 rfl (Nat.le_of_ble_eq_true rfl) (Nat.le_of_ble_eq_true rfl) (hQ _)
    · have hQ := hbad (by decide)
      refine r_iload_n dX0_says_0 rfl ?_
      refine r_callS (as := [_]) okX0_isShelf q375 dX0_says_1 (Nat.le_of_ble_eq_true rfl) rfl (Nat.le_of_ble_eq_true rfl) (Nat.le_of_ble_eq_true rfl) (Nat.le_of_ble_eq_true rfl) (pX0_isShelf ?_)
      refine r_if_eq 16 dX0_says_4 (by decide) (fun c_ => absurd c_ (in8 hj)) (fun _ => ?_)
      refine r_iload_n dX0_says_7 rfl ?_
      refine r_iconst 0 dX0_says_8 (by decide) ?_
      refine r_iconst 5 dX0_says_9 (by decide) ?_
      refine r_callS (as := [_, _, _]) okX0_isIn q378 dX0_says_10 (Nat.le_of_ble_eq_true rfl) rfl (Nat.le_of_ble_eq_true rfl) (Nat.le_of_ble_eq_true rfl) (Nat.le_of_ble_eq_true rfl) (pX0_isIn ?_)
      refine r_if_ne 23 dX0_says_13 (by decide) (fun _ => ?_) (fun c_ => absurd c_ (in5 hq))
      refine r_aload_n dX0_says_23 rfl ?_
      refine r_get bX0 8 (by decide) q254 dX0_says_24 rfl rfl ?_
      refine r_iload_n dX0_says_27 rfl ?_
      refine r_aald_sheet dX0_says_28 rfl (vp_in_nI (by omega) (by omega)) ?_
      rw [nI_clamp (by omega)]
      refine r_get bX4 0 (by decide) q242 dX0_says_29 (sh_at hj) rfl ?_
      rw [e1]
      refine r_astore_n dX0_says_32 (Nat.le_of_ble_eq_true rfl) ?_
      refine r_aload_n dX0_says_33 rfl ?_
      refine r_ifnonnull 44 dX0_says_34 (by decide) ?_
      refine r_iload_n dX0_says_44 rfl ?_
      refine r_tableOut 132 dX0_says_45 (by decide) (by decide) ?_
      refine r_aload_n dX0_says_132 rfl ?_
      refine r_aload_n dX0_says_133 rfl ?_
      refine r_castNo (isA_obj bX9 (hg _)) nc_Old_Shy (clQ_ok 2) (clQ_ok 5) q646 dX0_says_134 (Nat.le_of_ble_eq_true rfl) (Nat.le_of_ble_eq_true rfl) (Nat.le_of_ble_eq_true rfl) (rt_catch (hp := 141) (fun G hG => srS (by decide) (srS (by decide) (srS (by decide) (srS (by decide) (srS (by decide) (srY (by decide) (by decide) q528 q540)))))) ?_)
      refine r_astore dX0_says_141 (Nat.le_of_ble_eq_true rfl) ?_
      refine r_aload_n dX0_says_143 rfl ?_
      refine r_bipush (-3) dX0_says_144 (by decide) ?_
      refine r_callV (as := [_]) okX0_no bX0 rfl rfl q381 dX0_says_146 (Nat.le_of_ble_eq_true rfl) rfl (Nat.le_of_ble_eq_true rfl) (Nat.le_of_ble_eq_true rfl) (Nat.le_of_ble_eq_true rfl) (pX0_no 3 (by decide) (by decide) ?_)
      exact r_iret dX0_says_149 rfl (Nat.le_of_ble_eq_true rfl) (Nat.le_of_ble_eq_true rfl) (hQ _)
    · have hQ := hbad (by decide)
      refine r_iload_n dX0_says_0 rfl ?_
      refine r_callS (as := [_]) okX0_isShelf q375 dX0_says_1 (Nat.le_of_ble_eq_true rfl) rfl (Nat.le_of_ble_eq_true rfl) (Nat.le_of_ble_eq_true rfl) (Nat.le_of_ble_eq_true rfl) (pX0_isShelf ?_)
      refine r_if_eq 16 dX0_says_4 (by decide) (fun c_ => absurd c_ (in8 hj)) (fun _ => ?_)
      refine r_iload_n dX0_says_7 rfl ?_
      refine r_iconst 0 dX0_says_8 (by decide) ?_
      refine r_iconst 5 dX0_says_9 (by decide) ?_
      refine r_callS (as := [_, _, _]) okX0_isIn q378 dX0_says_10 (Nat.le_of_ble_eq_true rfl) rfl (Nat.le_of_ble_eq_true rfl) (Nat.le_of_ble_eq_true rfl) (Nat.le_of_ble_eq_true rfl) (pX0_isIn ?_)
      refine r_if_ne 23 dX0_says_13 (by decide) (fun _ => ?_) (fun c_ => absurd c_ (in5 hq))
      refine r_aload_n dX0_says_23 rfl ?_
      refine r_get bX0 8 (by decide) q254 dX0_says_24 rfl rfl ?_
      refine r_iload_n dX0_says_27 rfl ?_
      refine r_aald_sheet dX0_says_28 rfl (vp_in_nI (by omega) (by omega)) ?_
      rw [nI_clamp (by omega)]
      refine r_get bX4 0 (by decide) q242 dX0_says_29 (sh_at hj) rfl ?_
      rw [e1]
      refine r_astore_n dX0_says_32 (Nat.le_of_ble_eq_true rfl) ?_
      refine r_aload_n dX0_says_33 rfl ?_
      refine r_ifnonnull 44 dX0_says_34 (by decide) ?_
      refine r_iload_n dX0_says_44 rfl ?_
      refine r_tableOut 132 dX0_says_45 (by decide) (by decide) ?_
      refine r_aload_n dX0_says_132 rfl ?_
      refine r_aload_n dX0_says_133 rfl ?_
      refine r_castNo (isA_obj bX10 (hg _)) nc_Greedy_Shy (clQ_ok 3) (clQ_ok 5) q646 dX0_says_134 (Nat.le_of_ble_eq_true rfl) (Nat.le_of_ble_eq_true rfl) (Nat.le_of_ble_eq_true rfl) (rt_catch (hp := 141) (fun G hG => srS (by decide) (srS (by decide) (srS (by decide) (srS (by decide) (srS (by decide) (srY (by decide) (by decide) q528 q540)))))) ?_)
      refine r_astore dX0_says_141 (Nat.le_of_ble_eq_true rfl) ?_
      refine r_aload_n dX0_says_143 rfl ?_
      refine r_bipush (-3) dX0_says_144 (by decide) ?_
      refine r_callV (as := [_]) okX0_no bX0 rfl rfl q381 dX0_says_146 (Nat.le_of_ble_eq_true rfl) rfl (Nat.le_of_ble_eq_true rfl) (Nat.le_of_ble_eq_true rfl) (Nat.le_of_ble_eq_true rfl) (pX0_no 3 (by decide) (by decide) ?_)
      exact r_iret dX0_says_149 rfl (Nat.le_of_ble_eq_true rfl) (Nat.le_of_ble_eq_true rfl) (hQ _)
    · have hQ := hbad (by decide)
      refine r_iload_n dX0_says_0 rfl ?_
      refine r_callS (as := [_]) okX0_isShelf q375 dX0_says_1 (Nat.le_of_ble_eq_true rfl) rfl (Nat.le_of_ble_eq_true rfl) (Nat.le_of_ble_eq_true rfl) (Nat.le_of_ble_eq_true rfl) (pX0_isShelf ?_)
      refine r_if_eq 16 dX0_says_4 (by decide) (fun c_ => absurd c_ (in8 hj)) (fun _ => ?_)
      refine r_iload_n dX0_says_7 rfl ?_
      refine r_iconst 0 dX0_says_8 (by decide) ?_
      refine r_iconst 5 dX0_says_9 (by decide) ?_
      refine r_callS (as := [_, _, _]) okX0_isIn q378 dX0_says_10 (Nat.le_of_ble_eq_true rfl) rfl (Nat.le_of_ble_eq_true rfl) (Nat.le_of_ble_eq_true rfl) (Nat.le_of_ble_eq_true rfl) (pX0_isIn ?_)
      refine r_if_ne 23 dX0_says_13 (by decide) (fun _ => ?_) (fun c_ => absurd c_ (in5 hq))
      refine r_aload_n dX0_says_23 rfl ?_
      refine r_get bX0 8 (by decide) q254 dX0_says_24 rfl rfl ?_
      refine r_iload_n dX0_says_27 rfl ?_
      refine r_aald_sheet dX0_says_28 rfl (vp_in_nI (by omega) (by omega)) ?_
      rw [nI_clamp (by omega)]
      refine r_get bX4 0 (by decide) q242 dX0_says_29 (sh_at hj) rfl ?_
      rw [e1]
      refine r_astore_n dX0_says_32 (Nat.le_of_ble_eq_true rfl) ?_
      refine r_aload_n dX0_says_33 rfl ?_
      refine r_ifnonnull 44 dX0_says_34 (by decide) ?_
      refine r_iload_n dX0_says_44 rfl ?_
      refine r_tableOut 132 dX0_says_45 (by decide) (by decide) ?_
      refine r_aload_n dX0_says_132 rfl ?_
      refine r_aload_n dX0_says_133 rfl ?_
      refine r_castNo (isA_obj bX11 (hg _)) nc_Giver_Shy (clQ_ok 4) (clQ_ok 5) q646 dX0_says_134 (Nat.le_of_ble_eq_true rfl) (Nat.le_of_ble_eq_true rfl) (Nat.le_of_ble_eq_true rfl) (rt_catch (hp := 141) (fun G hG => srS (by decide) (srS (by decide) (srS (by decide) (srS (by decide) (srS (by decide) (srY (by decide) (by decide) q528 q540)))))) ?_)
      refine r_astore dX0_says_141 (Nat.le_of_ble_eq_true rfl) ?_
      refine r_aload_n dX0_says_143 rfl ?_
      refine r_bipush (-3) dX0_says_144 (by decide) ?_
      refine r_callV (as := [_]) okX0_no bX0 rfl rfl q381 dX0_says_146 (Nat.le_of_ble_eq_true rfl) rfl (Nat.le_of_ble_eq_true rfl) (Nat.le_of_ble_eq_true rfl) (Nat.le_of_ble_eq_true rfl) (pX0_no 3 (by decide) (by decide) ?_)
      exact r_iret dX0_says_149 rfl (Nat.le_of_ble_eq_true rfl) (Nat.le_of_ble_eq_true rfl) (hQ _)
    · have hq3 := hok (by decide) (by decide)
      refine r_iload_n dX0_says_0 rfl ?_
      refine r_callS (as := [_]) okX0_isShelf q375 dX0_says_1 (Nat.le_of_ble_eq_true rfl) rfl (Nat.le_of_ble_eq_true rfl) (Nat.le_of_ble_eq_true rfl) (Nat.le_of_ble_eq_true rfl) (pX0_isShelf ?_)
      refine r_if_eq 16 dX0_says_4 (by decide) (fun c_ => absurd c_ (in8 hj)) (fun _ => ?_)
      refine r_iload_n dX0_says_7 rfl ?_
      refine r_iconst 0 dX0_says_8 (by decide) ?_
      refine r_iconst 5 dX0_says_9 (by decide) ?_
      refine r_callS (as := [_, _, _]) okX0_isIn q378 dX0_says_10 (Nat.le_of_ble_eq_true rfl) rfl (Nat.le_of_ble_eq_true rfl) (Nat.le_of_ble_eq_true rfl) (Nat.le_of_ble_eq_true rfl) (pX0_isIn ?_)
      refine r_if_ne 23 dX0_says_13 (by decide) (fun _ => ?_) (fun c_ => absurd c_ (in5 hq))
      refine r_aload_n dX0_says_23 rfl ?_
      refine r_get bX0 8 (by decide) q254 dX0_says_24 rfl rfl ?_
      refine r_iload_n dX0_says_27 rfl ?_
      refine r_aald_sheet dX0_says_28 rfl (vp_in_nI (by omega) (by omega)) ?_
      rw [nI_clamp (by omega)]
      refine r_get bX4 0 (by decide) q242 dX0_says_29 (sh_at hj) rfl ?_
      rw [e1]
      refine r_astore_n dX0_says_32 (Nat.le_of_ble_eq_true rfl) ?_
      refine r_aload_n dX0_says_33 rfl ?_
      refine r_ifnonnull 44 dX0_says_34 (by decide) ?_
      refine r_iload_n dX0_says_44 rfl ?_
      refine r_tableOut 132 dX0_says_45 (by decide) (by decide) ?_
      refine r_aload_n dX0_says_132 rfl ?_
      refine r_aload_n dX0_says_133 rfl ?_
      refine r_castE (isA_obj bX12 (hg _)) q646 dX0_says_134 ?_
      refine r_callV (as := [_]) okX0_alone bX0 rfl rfl q543 dX0_says_137 (Nat.le_of_ble_eq_true rfl) rfl (Nat.le_of_ble_eq_true rfl) (Nat.le_of_ble_eq_true rfl) (Nat.le_of_ble_eq_true rfl) (pX0_alone hn hL hP hx hc hg (fun eP eT eF ef eg ew => ?_))
      exact r_iret dX0_says_140 rfl (Nat.le_of_ble_eq_true rfl) (Nat.le_of_ble_eq_true rfl) (hq3 _ _ _ _ _ _)
end XX
