set_option maxRecDepth 100000
/-! the component: rowIn, row, set, element -/
theorem in8 {j : Nat} (hj : j < 8) : b2i (inB (nI j) 0 7) ≠ 0 := b2i_n.mpr (inB_nI (N := 7) (by omega) (by decide))
theorem r_inst_lk {J : Jb} {ce sl pc : Nat} {lv : List (Option Value)} {st : List Value} {h : AHp} {a index c : Nat} {fs : List Value} (hc : c < 6) (hg : aGet h a = some (.inr (7 + c, fs))) (hq : Cond.classLink J.1.1.cls index "SeenInOrderOfAge$Looker" ∈ lw_all) (hd : decode J.1.2.1 pc = .ok (.instanceof index, 3)) (kk : Rch J ce sl (pc + 3) lv (.int 1 :: st) h) : Rch J ce sl pc lv (.ref a :: st) h := by
  rcases (show c = 0 ∨ c = 1 ∨ c = 2 ∨ c = 3 ∨ c = 4 ∨ c = 5 by omega) with rfl | rfl | rfl | rfl | rfl | rfl
  · exact r_instE (isA_obj bX7 hg) hq hd kk
  · exact r_instY (isA_obj bX8 hg) q2059 hq hd kk
  · exact r_instY (isA_obj bX9 hg) q2062 hq hd kk
  · exact r_instY (isA_obj bX10 hg) q2061 hq hd kk
  · exact r_instY (isA_obj bX11 hg) q2060 hq hd kk
  · exact r_instY (isA_obj bX12 hg) q2063 hq hd kk
theorem r_cast_lk {J : Jb} {ce sl pc : Nat} {lv : List (Option Value)} {st : List Value} {h : AHp} {a index c : Nat} {fs : List Value} (hc : c < 6) (hg : aGet h a = some (.inr (7 + c, fs))) (hq : Cond.classLink J.1.1.cls index "SeenInOrderOfAge$Looker" ∈ lw_all) (hd : decode J.1.2.1 pc = .ok (.checkcast index, 3)) (kk : Rch J ce sl (pc + 3) lv (.ref a :: st) h) : Rch J ce sl pc lv (.ref a :: st) h := by
  rcases (show c = 0 ∨ c = 1 ∨ c = 2 ∨ c = 3 ∨ c = 4 ∨ c = 5 by omega) with rfl | rfl | rfl | rfl | rfl | rfl
  · exact r_castE (isA_obj bX7 hg) hq hd kk
  · exact r_castY (isA_obj bX8 hg) q2059 hq hd kk
  · exact r_castY (isA_obj bX9 hg) q2062 hq hd kk
  · exact r_castY (isA_obj bX10 hg) q2061 hq hd kk
  · exact r_castY (isA_obj bX11 hg) q2060 hq hd kk
  · exact r_castY (isA_obj bX12 hg) q2063 hq hd kk
section XX
variable {iv : Value} {tP : Nat → Int32} {tL : Nat → Option Nat} {tA tK tC tS tH : Nat → Int32} {tN tE tZ tf : Int32} {mP : Nat → Int32} {mf : Int32} {eP eT eF : Nat → Int32} {ef eg : Int32} {ew : Value} {rx gx wx : Nat → Int32} {hv : Nat → Value} {tp : Nat → Int32} {td : Int32} {rf : Nat → Int32} {rc ic : Nat → AC} {th : Nat → Int32} {pf : Int32} {nl : Nat → Option Nat} {ag lk co sh hs : Nat → Int32} {my ev se : Int32} {lc : Nat → AC} {r0 r3 : List AC} {Q : Option Value → AHp → Prop} {n : Nat} {kN : Nat → Nat} {ow : Nat → Int32}
theorem pX0_rowIn_0 {h2 : List AC} {j : Nat} {Q : OC → AHp → Prop} (hj : j < 8) (e1 : hv j = .null) (hQ : ∀ g0 g1 g2 g3 g4 g5, Q (.inr (8 * r3.length + 3, "SeenInOrderOfAge$Refused")) (r0, (xC (.ref 2) iv tP tL tA tK tC tS tH tN tE tZ tf mP mf eP eT eF ef eg ew rx gx wx hv tp td rf rc ic), h2, r3 ++ [.inr (6, [g0, g1, g2, g3, g4, g5, .int (-4)])])) : AMetX mX0_rowIn 5 1 7 [.ref 1, .int (nI j)] (r0, (xC (.ref 2) iv tP tL tA tK tC tS tH tN tE tZ tf mP mf eP eT eF ef eg ew rx gx wx hv tp td rf rc ic), h2, r3) Q := by
  refine AMetX.ofRch rfl (Nat.le_of_ble_eq_true rfl) ?_
  refine r_aload_n dX0_rowIn_0 rfl ?_
  refine r_get bX0 8 (by decide) q254 dX0_rowIn_1 rfl rfl ?_
  refine r_iload_n dX0_rowIn_4 rfl ?_
  refine r_aald_sheet dX0_rowIn_5 rfl (vp_in_nI (by omega) (by omega)) ?_
  rw [nI_clamp (by omega)]
  refine r_get bX4 0 (by decide) q242 dX0_rowIn_6 (sh_at hj) rfl ?_
  rw [e1]
  refine r_astore_nN dX0_rowIn_9 (Nat.le_of_ble_eq_true rfl) ?_
  refine r_aload_nN dX0_rowIn_10 rfl ?_
  refine r_inst0 dX0_rowIn_11 ?_
  refine r_if_eq 27 dX0_rowIn_14 (by decide) (fun _ => ?_) (fun c_ => absurd (rfl) c_)
  refine r_aload_nN dX0_rowIn_27 rfl ?_
  refine r_ifnonnullN dX0_rowIn_28 ?_
  refine r_new bX6 [.null, .null, .null, .null, .null, .int 0, .int 0] (by decide) (fun _ => rfl) q395 q420 q97 dX0_rowIn_31 (Nat.le_of_ble_eq_true rfl) (Nat.le_of_ble_eq_true rfl) ?_
  refine r_dup dX0_rowIn_34 rfl ?_
  refine r_bipush (-4) dX0_rowIn_35 (by decide) ?_
  refine r_callI (as := [_]) okX6_init q428 dX0_rowIn_37 (Nat.le_of_ble_eq_true rfl) rfl (Nat.le_of_ble_eq_true rfl) (Nat.le_of_ble_eq_true rfl) (Nat.le_of_ble_eq_true rfl) (pX6_init aGet_push (fun g0 g1 g2 g3 g4 g5 => ?_))
  rw [aSet_push]
  refine r_athrow dX0_rowIn_40 bX6 aGet_push ?_
  exact rt_leave rfl (Nat.le_of_ble_eq_true rfl) (Nat.le_of_ble_eq_true rfl) (hQ _ _ _ _ _ _)
theorem pX0_rowIn_l {h2 : List AC} {j : Nat} {Q : OC → AHp → Prop} {a c : Nat} {fs : List Value} (hj : j < 8) (e1 : hv j = .ref a) (hc : c < 6) (hg : aGet (r0, (xC (.ref 2) iv tP tL tA tK tC tS tH tN tE tZ tf mP mf eP eT eF ef eg ew rx gx wx hv tp td rf rc ic), h2, r3) a = some (.inr (7 + c, fs))) (hQ : ∀ g0 g1 g2 g3 g4 g5, Q (.inr (8 * r3.length + 3, "SeenInOrderOfAge$Refused")) (r0, (xC (.ref 2) iv tP tL tA tK tC tS tH tN tE tZ tf mP mf eP eT eF ef eg ew rx gx wx hv tp td rf rc ic), h2, r3 ++ [.inr (6, [g0, g1, g2, g3, g4, g5, .int (-3)])])) : AMetX mX0_rowIn 5 1 7 [.ref 1, .int (nI j)] (r0, (xC (.ref 2) iv tP tL tA tK tC tS tH tN tE tZ tf mP mf eP eT eF ef eg ew rx gx wx hv tp td rf rc ic), h2, r3) Q := by
  refine AMetX.ofRch rfl (Nat.le_of_ble_eq_true rfl) ?_
  refine r_aload_n dX0_rowIn_0 rfl ?_
  refine r_get bX0 8 (by decide) q254 dX0_rowIn_1 rfl rfl ?_
  refine r_iload_n dX0_rowIn_4 rfl ?_
  refine r_aald_sheet dX0_rowIn_5 rfl (vp_in_nI (by omega) (by omega)) ?_
  rw [nI_clamp (by omega)]
  refine r_get bX4 0 (by decide) q242 dX0_rowIn_6 (sh_at hj) rfl ?_
  rw [e1]
  refine r_astore_n dX0_rowIn_9 (Nat.le_of_ble_eq_true rfl) ?_
  refine r_aload_n dX0_rowIn_10 rfl ?_
  refine r_inst_lk hc hg q419 dX0_rowIn_11 ?_
  refine r_if_eq 27 dX0_rowIn_14 (by decide) (fun c_ => absurd c_ (by decide)) (fun _ => ?_)
  refine r_new bX6 [.null, .null, .null, .null, .null, .int 0, .int 0] (by decide) (fun _ => rfl) q395 q420 q97 dX0_rowIn_17 (Nat.le_of_ble_eq_true rfl) (Nat.le_of_ble_eq_true rfl) ?_
  refine r_dup dX0_rowIn_20 rfl ?_
  refine r_bipush (-3) dX0_rowIn_21 (by decide) ?_
  refine r_callI (as := [_]) okX6_init q428 dX0_rowIn_23 (Nat.le_of_ble_eq_true rfl) rfl (Nat.le_of_ble_eq_true rfl) (Nat.le_of_ble_eq_true rfl) (Nat.le_of_ble_eq_true rfl) (pX6_init aGet_push (fun g0 g1 g2 g3 g4 g5 => ?_))
  rw [aSet_push]
  refine r_athrow dX0_rowIn_26 bX6 aGet_push ?_
  exact rt_leave rfl (Nat.le_of_ble_eq_true rfl) (Nat.le_of_ble_eq_true rfl) (hQ _ _ _ _ _ _)
theorem pX0_rowIn_r {h2 : List AC} {j : Nat} {Q : OC → AHp → Prop} {a k m : Nat} {f : Nat → Int64} (hj : j < 8) (e1 : hv j = .ref a) (hg : aGet (r0, (xC (.ref 2) iv tP tL tA tK tC tS tH tN tE tZ tf mP mf eP eT eF ef eg ew rx gx wx hv tp td rf rc ic), h2, r3) a = some (rwC k m f)) (hQ : Q (.inl (some (.ref a))) (r0, (xC (.ref 2) iv tP tL tA tK tC tS tH tN tE tZ tf mP mf eP eT eF ef eg ew rx gx wx hv tp td rf rc ic), h2, r3)) : AMetX mX0_rowIn 5 1 7 [.ref 1, .int (nI j)] (r0, (xC (.ref 2) iv tP tL tA tK tC tS tH tN tE tZ tf mP mf eP eT eF ef eg ew rx gx wx hv tp td rf rc ic), h2, r3) Q := by
  refine AMetX.ofRch rfl (Nat.le_of_ble_eq_true rfl) ?_
  refine r_aload_n dX0_rowIn_0 rfl ?_
  refine r_get bX0 8 (by decide) q254 dX0_rowIn_1 rfl rfl ?_
  refine r_iload_n dX0_rowIn_4 rfl ?_
  refine r_aald_sheet dX0_rowIn_5 rfl (vp_in_nI (by omega) (by omega)) ?_
  rw [nI_clamp (by omega)]
  refine r_get bX4 0 (by decide) q242 dX0_rowIn_6 (sh_at hj) rfl ?_
  rw [e1]
  refine r_astore_n dX0_rowIn_9 (Nat.le_of_ble_eq_true rfl) ?_
  refine r_aload_n dX0_rowIn_10 rfl ?_
  refine r_instNo (isA_row k hg) (nc_row k) q419 dX0_rowIn_11 ?_
  refine r_if_eq 27 dX0_rowIn_14 (by decide) (fun _ => ?_) (fun c_ => absurd (rfl) c_)
  refine r_aload_n dX0_rowIn_27 rfl ?_
  refine r_ifnonnull 41 dX0_rowIn_28 (by decide) ?_
  refine r_aload_n dX0_rowIn_41 rfl ?_
  exact r_aret dX0_rowIn_42 rfl (by first | exact Or.inl ⟨_, rfl⟩ | exact Or.inr ⟨_, rfl⟩) (Nat.le_of_ble_eq_true rfl) (Nat.le_of_ble_eq_true rfl) (hQ)
theorem pX0_set_bad {h2 : List AC} {s i : Int32} {v : Int64} {Q : OC → AHp → Prop} (hb : inB s 0 7 = false) (hQ : ∀ r3, Q (.inl (some (.int (-2)))) (r0, (xC (.ref 2) iv tP tL tA tK tC tS tH tN tE tZ tf mP mf eP eT eF ef eg ew rx gx wx hv tp td (upd rf 2 (rf 2 + 1)) rc ic), h2, r3)) : AMetX mX0_set 6 4 229 [.ref 1, .int s, .int i, .long v] (r0, (xC (.ref 2) iv tP tL tA tK tC tS tH tN tE tZ tf mP mf eP eT eF ef eg ew rx gx wx hv tp td rf rc ic), h2, r3) Q := by
  refine AMetX.ofRch rfl (Nat.le_of_ble_eq_true rfl) ?_
  refine r_iload_n dX0_set_0 rfl ?_
  refine r_callS (as := [_]) okX0_isShelf q375 dX0_set_1 (Nat.le_of_ble_eq_true rfl) rfl (Nat.le_of_ble_eq_true rfl) (Nat.le_of_ble_eq_true rfl) (Nat.le_of_ble_eq_true rfl) (pX0_isShelf ?_)
  refine r_if_ne 14 dX0_set_4 (by decide) (fun c_ => absurd (b2i_0.mpr hb) c_) (fun _ => ?_)
  refine r_aload_n dX0_set_7 rfl ?_
  refine r_bipush (-2) dX0_set_8 (by decide) ?_
  refine r_callV (as := [_]) okX0_no bX0 rfl rfl q381 dX0_set_10 (Nat.le_of_ble_eq_true rfl) rfl (Nat.le_of_ble_eq_true rfl) (Nat.le_of_ble_eq_true rfl) (Nat.le_of_ble_eq_true rfl) (pX0_no 2 (by decide) (by decide) ?_)
  exact r_iret dX0_set_13 rfl (Nat.le_of_ble_eq_true rfl) (Nat.le_of_ble_eq_true rfl) (hQ _)
theorem pX0_set_0 {h2 : List AC} {j : Nat} {Q : OC → AHp → Prop} {i : Int32} {v : Int64} (hj : j < 8) (e1 : hv j = .null) (hQ : ∀ r3, Q (.inl (some (.int (-4)))) (r0, (xC (.ref 2) iv tP tL tA tK tC tS tH tN tE tZ tf mP mf eP eT eF ef eg ew rx gx wx hv tp td (upd rf 4 (rf 4 + 1)) rc ic), h2, r3)) : AMetX mX0_set 6 4 229 [.ref 1, .int (nI j), .int i, .long v] (r0, (xC (.ref 2) iv tP tL tA tK tC tS tH tN tE tZ tf mP mf eP eT eF ef eg ew rx gx wx hv tp td rf rc ic), h2, r3) Q := by
  refine AMetX.ofRch rfl (Nat.le_of_ble_eq_true rfl) ?_
  refine r_iload_n dX0_set_0 rfl ?_
  refine r_callS (as := [_]) okX0_isShelf q375 dX0_set_1 (Nat.le_of_ble_eq_true rfl) rfl (Nat.le_of_ble_eq_true rfl) (Nat.le_of_ble_eq_true rfl) (Nat.le_of_ble_eq_true rfl) (pX0_isShelf ?_)
  refine r_if_ne 14 dX0_set_4 (by decide) (fun _ => ?_) (fun c_ => absurd c_ (in8 hj))
  refine r_aload_n dX0_set_14 rfl ?_
  refine r_iload_n dX0_set_15 rfl ?_
  refine r_xV (as := [_]) oxX0_rowIn bX0 rfl rfl q415 dX0_set_16 (Nat.le_of_ble_eq_true rfl) rfl (Nat.le_of_ble_eq_true rfl) (Nat.le_of_ble_eq_true rfl) (Nat.le_of_ble_eq_true rfl) (pX0_rowIn_0 hj e1 (fun g0 g1 g2 g3 g4 g5 => ?_))
  refine rt_catch (hp := 26) (fun G hG => srY (by decide) (by decide) q395 q421) ?_
  refine r_astore dX0_set_26 (Nat.le_of_ble_eq_true rfl) ?_
  refine r_aload_n dX0_set_28 rfl ?_
  refine r_aload dX0_set_29 rfl ?_
  refine r_get bX6 6 (by decide) q441 dX0_set_31 (aGet_push (h := (r0, (xC (.ref 2) iv tP tL tA tK tC tS tH tN tE tZ tf mP mf eP eT eF ef eg ew rx gx wx hv tp td rf rc ic), h2, r3))) rfl ?_
  refine r_callV (as := [_]) okX0_no bX0 rfl rfl q381 dX0_set_34 (Nat.le_of_ble_eq_true rfl) rfl (Nat.le_of_ble_eq_true rfl) (Nat.le_of_ble_eq_true rfl) (Nat.le_of_ble_eq_true rfl) (pX0_no 4 (by decide) (by decide) ?_)
  exact r_iret dX0_set_37 rfl (Nat.le_of_ble_eq_true rfl) (Nat.le_of_ble_eq_true rfl) (hQ _)
theorem pX0_set_l {h2 : List AC} {j : Nat} {Q : OC → AHp → Prop} {i : Int32} {v : Int64} {a c : Nat} {fs : List Value} (hj : j < 8) (e1 : hv j = .ref a) (hc : c < 6) (hg : aGet (r0, (xC (.ref 2) iv tP tL tA tK tC tS tH tN tE tZ tf mP mf eP eT eF ef eg ew rx gx wx hv tp td rf rc ic), h2, r3) a = some (.inr (7 + c, fs))) (hQ : ∀ r3, Q (.inl (some (.int (-3)))) (r0, (xC (.ref 2) iv tP tL tA tK tC tS tH tN tE tZ tf mP mf eP eT eF ef eg ew rx gx wx hv tp td (upd rf 3 (rf 3 + 1)) rc ic), h2, r3)) : AMetX mX0_set 6 4 229 [.ref 1, .int (nI j), .int i, .long v] (r0, (xC (.ref 2) iv tP tL tA tK tC tS tH tN tE tZ tf mP mf eP eT eF ef eg ew rx gx wx hv tp td rf rc ic), h2, r3) Q := by
  refine AMetX.ofRch rfl (Nat.le_of_ble_eq_true rfl) ?_
  refine r_iload_n dX0_set_0 rfl ?_
  refine r_callS (as := [_]) okX0_isShelf q375 dX0_set_1 (Nat.le_of_ble_eq_true rfl) rfl (Nat.le_of_ble_eq_true rfl) (Nat.le_of_ble_eq_true rfl) (Nat.le_of_ble_eq_true rfl) (pX0_isShelf ?_)
  refine r_if_ne 14 dX0_set_4 (by decide) (fun _ => ?_) (fun c_ => absurd c_ (in8 hj))
  refine r_aload_n dX0_set_14 rfl ?_
  refine r_iload_n dX0_set_15 rfl ?_
  refine r_xV (as := [_]) oxX0_rowIn bX0 rfl rfl q415 dX0_set_16 (Nat.le_of_ble_eq_true rfl) rfl (Nat.le_of_ble_eq_true rfl) (Nat.le_of_ble_eq_true rfl) (Nat.le_of_ble_eq_true rfl) (pX0_rowIn_l hj e1 hc hg (fun g0 g1 g2 g3 g4 g5 => ?_))
  refine rt_catch (hp := 26) (fun G hG => srY (by decide) (by decide) q395 q421) ?_
  refine r_astore dX0_set_26 (Nat.le_of_ble_eq_true rfl) ?_
  refine r_aload_n dX0_set_28 rfl ?_
  refine r_aload dX0_set_29 rfl ?_
  refine r_get bX6 6 (by decide) q441 dX0_set_31 (aGet_push (h := (r0, (xC (.ref 2) iv tP tL tA tK tC tS tH tN tE tZ tf mP mf eP eT eF ef eg ew rx gx wx hv tp td rf rc ic), h2, r3))) rfl ?_
  refine r_callV (as := [_]) okX0_no bX0 rfl rfl q381 dX0_set_34 (Nat.le_of_ble_eq_true rfl) rfl (Nat.le_of_ble_eq_true rfl) (Nat.le_of_ble_eq_true rfl) (Nat.le_of_ble_eq_true rfl) (pX0_no 3 (by decide) (by decide) ?_)
  exact r_iret dX0_set_37 rfl (Nat.le_of_ble_eq_true rfl) (Nat.le_of_ble_eq_true rfl) (hQ _)
theorem pX0_set_r {h2 : List AC} {j : Nat} {Q : OC → AHp → Prop} {i : Int32} {v : Int64} {a k m : Nat} {f : Nat → Int64} (hj : j < 8) (e1 : hv j = .ref a) (hk : k < 5) (hm : m ≤ 40) (hg : aGet (r0, (xC (.ref 2) iv tP tL tA tK tC tS tH tN tE tZ tf mP mf eP eT eF ef eg ew rx gx wx hv tp td rf rc ic), h2, r3) a = some (rwC k m f)) (hQ : ∀ q, q < m → i = nI q → Q (.inl (some (.int 1))) (aSet (r0, (xC (.ref 2) iv tP tL tA tK tC tS tH tN tE tZ tf mP mf eP eT eF ef eg ew rx gx wx hv tp td rf rc ic), h2, r3) a (rwC k m (vp_updL f q (keF k v))))) (hN : ¬ vp_in i m → ∀ r3, Q (.inl (some (.int (-2)))) (r0, (xC (.ref 2) iv tP tL tA tK tC tS tH tN tE tZ tf mP mf eP eT eF ef eg ew rx gx wx hv tp td (upd rf 2 (rf 2 + 1)) rc ic), h2, r3)) : AMetX mX0_set 6 4 229 [.ref 1, .int (nI j), .int i, .long v] (r0, (xC (.ref 2) iv tP tL tA tK tC tS tH tN tE tZ tf mP mf eP eT eF ef eg ew rx gx wx hv tp td rf rc ic), h2, r3) Q := by
  refine AMetX.ofRch rfl (Nat.le_of_ble_eq_true rfl) ?_
  refine r_iload_n dX0_set_0 rfl ?_
  refine r_callS (as := [_]) okX0_isShelf q375 dX0_set_1 (Nat.le_of_ble_eq_true rfl) rfl (Nat.le_of_ble_eq_true rfl) (Nat.le_of_ble_eq_true rfl) (Nat.le_of_ble_eq_true rfl) (pX0_isShelf ?_)
  refine r_if_ne 14 dX0_set_4 (by decide) (fun _ => ?_) (fun c_ => absurd c_ (in8 hj))
  refine r_aload_n dX0_set_14 rfl ?_
  refine r_iload_n dX0_set_15 rfl ?_
  refine r_xV (as := [_]) oxX0_rowIn bX0 rfl rfl q415 dX0_set_16 (Nat.le_of_ble_eq_true rfl) rfl (Nat.le_of_ble_eq_true rfl) (Nat.le_of_ble_eq_true rfl) (Nat.le_of_ble_eq_true rfl) (pX0_rowIn_r hj e1 hg ?_)
  refine r_iload_n dX0_set_19 rfl ?_
  refine r_lload_n dX0_set_20 rfl ?_
  refine r_xS (as := [_, _, _]) oxX0_puts q446 dX0_set_21 (Nat.le_of_ble_eq_true rfl) rfl (Nat.le_of_ble_eq_true rfl) (Nat.le_of_ble_eq_true rfl) (Nat.le_of_ble_eq_true rfl) (pX0_puts hk hm hg (fun q hq eq => ?_) (fun hi => ?_))
  · refine r_iconst 1 dX0_set_24 (by decide) ?_
    exact r_iret dX0_set_25 rfl (Nat.le_of_ble_eq_true rfl) (Nat.le_of_ble_eq_true rfl) (hQ q hq eq)
  · refine rt_catch (hp := 38) (fun G hG => srN hG (by decide) (by decide) q395 nc_ArrayIndexOutOfBounds_Refused (srY (by decide) (by decide) q396 q411)) ?_
    refine r_astore dX0_set_38 (Nat.le_of_ble_eq_true rfl) ?_
    refine r_aload_n dX0_set_40 rfl ?_
    refine r_bipush (-2) dX0_set_41 (by decide) ?_
    refine r_callV (as := [_]) okX0_no bX0 rfl rfl q381 dX0_set_43 (Nat.le_of_ble_eq_true rfl) rfl (Nat.le_of_ble_eq_true rfl) (Nat.le_of_ble_eq_true rfl) (Nat.le_of_ble_eq_true rfl) (pX0_no 2 (by decide) (by decide) ?_)
    exact r_iret dX0_set_46 rfl (Nat.le_of_ble_eq_true rfl) (Nat.le_of_ble_eq_true rfl) (hN hi _)
theorem pX0_element_bad {h2 : List AC} {s i : Int32} {Q : OC → AHp → Prop} (hb : inB s 0 7 = false) (hQ : ∀ r3, Q (.inl (some (.long 0))) (r0, (xC (.ref 2) iv tP tL tA tK tC tS tH tN tE tZ tf mP mf eP eT eF ef eg ew rx gx wx hv tp td rf rc ic), h2, r3)) : AMetX mX0_element 6 4 229 [.ref 1, .int s, .int i] (r0, (xC (.ref 2) iv tP tL tA tK tC tS tH tN tE tZ tf mP mf eP eT eF ef eg ew rx gx wx hv tp td rf rc ic), h2, r3) Q := by
  refine AMetX.ofRch rfl (Nat.le_of_ble_eq_true rfl) ?_
  refine r_iload_n dX0_element_0 rfl ?_
  refine r_callS (as := [_]) okX0_isShelf q375 dX0_element_1 (Nat.le_of_ble_eq_true rfl) rfl (Nat.le_of_ble_eq_true rfl) (Nat.le_of_ble_eq_true rfl) (Nat.le_of_ble_eq_true rfl) (pX0_isShelf ?_)
  refine r_if_ne 9 dX0_element_4 (by decide) (fun c_ => absurd (b2i_0.mpr hb) c_) (fun _ => ?_)
  refine r_lconst 0 dX0_element_7 (by decide) ?_
  exact r_lret dX0_element_8 rfl (Nat.le_of_ble_eq_true rfl) (Nat.le_of_ble_eq_true rfl) (hQ _)
theorem pX0_element_0 {h2 : List AC} {j : Nat} {Q : OC → AHp → Prop} {i : Int32} (hj : j < 8) (e1 : hv j = .null) (hQ : ∀ r3, Q (.inl (some (.long 0))) (r0, (xC (.ref 2) iv tP tL tA tK tC tS tH tN tE tZ tf mP mf eP eT eF ef eg ew rx gx wx hv tp td rf rc ic), h2, r3)) : AMetX mX0_element 6 4 229 [.ref 1, .int (nI j), .int i] (r0, (xC (.ref 2) iv tP tL tA tK tC tS tH tN tE tZ tf mP mf eP eT eF ef eg ew rx gx wx hv tp td rf rc ic), h2, r3) Q := by
  refine AMetX.ofRch rfl (Nat.le_of_ble_eq_true rfl) ?_
  refine r_iload_n dX0_element_0 rfl ?_
  refine r_callS (as := [_]) okX0_isShelf q375 dX0_element_1 (Nat.le_of_ble_eq_true rfl) rfl (Nat.le_of_ble_eq_true rfl) (Nat.le_of_ble_eq_true rfl) (Nat.le_of_ble_eq_true rfl) (pX0_isShelf ?_)
  refine r_if_ne 9 dX0_element_4 (by decide) (fun _ => ?_) (fun c_ => absurd c_ (in8 hj))
  refine r_aload_n dX0_element_9 rfl ?_
  refine r_iload_n dX0_element_10 rfl ?_
  refine r_xV (as := [_]) oxX0_rowIn bX0 rfl rfl q415 dX0_element_11 (Nat.le_of_ble_eq_true rfl) rfl (Nat.le_of_ble_eq_true rfl) (Nat.le_of_ble_eq_true rfl) (Nat.le_of_ble_eq_true rfl) (pX0_rowIn_0 hj e1 (fun g0 g1 g2 g3 g4 g5 => ?_))
  refine rt_catch (hp := 19) (fun G hG => srY (by decide) (by decide) q395 q421) ?_
  refine r_astore_n dX0_element_19 (Nat.le_of_ble_eq_true rfl) ?_
  refine r_lconst 0 dX0_element_20 (by decide) ?_
  exact r_lret dX0_element_21 rfl (Nat.le_of_ble_eq_true rfl) (Nat.le_of_ble_eq_true rfl) (hQ _)
theorem pX0_element_l {h2 : List AC} {j : Nat} {Q : OC → AHp → Prop} {i : Int32} {a c : Nat} {fs : List Value} (hj : j < 8) (e1 : hv j = .ref a) (hc : c < 6) (hg : aGet (r0, (xC (.ref 2) iv tP tL tA tK tC tS tH tN tE tZ tf mP mf eP eT eF ef eg ew rx gx wx hv tp td rf rc ic), h2, r3) a = some (.inr (7 + c, fs))) (hQ : ∀ r3, Q (.inl (some (.long 0))) (r0, (xC (.ref 2) iv tP tL tA tK tC tS tH tN tE tZ tf mP mf eP eT eF ef eg ew rx gx wx hv tp td rf rc ic), h2, r3)) : AMetX mX0_element 6 4 229 [.ref 1, .int (nI j), .int i] (r0, (xC (.ref 2) iv tP tL tA tK tC tS tH tN tE tZ tf mP mf eP eT eF ef eg ew rx gx wx hv tp td rf rc ic), h2, r3) Q := by
  refine AMetX.ofRch rfl (Nat.le_of_ble_eq_true rfl) ?_
  refine r_iload_n dX0_element_0 rfl ?_
  refine r_callS (as := [_]) okX0_isShelf q375 dX0_element_1 (Nat.le_of_ble_eq_true rfl) rfl (Nat.le_of_ble_eq_true rfl) (Nat.le_of_ble_eq_true rfl) (Nat.le_of_ble_eq_true rfl) (pX0_isShelf ?_)
  refine r_if_ne 9 dX0_element_4 (by decide) (fun _ => ?_) (fun c_ => absurd c_ (in8 hj))
  refine r_aload_n dX0_element_9 rfl ?_
  refine r_iload_n dX0_element_10 rfl ?_
  refine r_xV (as := [_]) oxX0_rowIn bX0 rfl rfl q415 dX0_element_11 (Nat.le_of_ble_eq_true rfl) rfl (Nat.le_of_ble_eq_true rfl) (Nat.le_of_ble_eq_true rfl) (Nat.le_of_ble_eq_true rfl) (pX0_rowIn_l hj e1 hc hg (fun g0 g1 g2 g3 g4 g5 => ?_))
  refine rt_catch (hp := 19) (fun G hG => srY (by decide) (by decide) q395 q421) ?_
  refine r_astore_n dX0_element_19 (Nat.le_of_ble_eq_true rfl) ?_
  refine r_lconst 0 dX0_element_20 (by decide) ?_
  exact r_lret dX0_element_21 rfl (Nat.le_of_ble_eq_true rfl) (Nat.le_of_ble_eq_true rfl) (hQ _)
theorem pX0_element_r {h2 : List AC} {j : Nat} {Q : OC → AHp → Prop} {i : Int32} {a k m : Nat} {f : Nat → Int64} (hj : j < 8) (e1 : hv j = .ref a) (hk : k < 5) (hm : m ≤ 40) (hg : aGet (r0, (xC (.ref 2) iv tP tL tA tK tC tS tH tN tE tZ tf mP mf eP eT eF ef eg ew rx gx wx hv tp td rf rc ic), h2, r3) a = some (rwC k m f)) (hke : ∀ q, q < m → keF k (f q) = f q) (hQ : ∀ q, q < m → i = nI q → Q (.inl (some (.long (f q)))) (r0, (xC (.ref 2) iv tP tL tA tK tC tS tH tN tE tZ tf mP mf eP eT eF ef eg ew rx gx wx hv tp td rf rc ic), h2, r3)) (hN : ¬ vp_in i m → ∀ r3, Q (.inl (some (.long 0))) (r0, (xC (.ref 2) iv tP tL tA tK tC tS tH tN tE tZ tf mP mf eP eT eF ef eg ew rx gx wx hv tp td rf rc ic), h2, r3)) : AMetX mX0_element 6 4 229 [.ref 1, .int (nI j), .int i] (r0, (xC (.ref 2) iv tP tL tA tK tC tS tH tN tE tZ tf mP mf eP eT eF ef eg ew rx gx wx hv tp td rf rc ic), h2, r3) Q := by
  refine AMetX.ofRch rfl (Nat.le_of_ble_eq_true rfl) ?_
  refine r_iload_n dX0_element_0 rfl ?_
  refine r_callS (as := [_]) okX0_isShelf q375 dX0_element_1 (Nat.le_of_ble_eq_true rfl) rfl (Nat.le_of_ble_eq_true rfl) (Nat.le_of_ble_eq_true rfl) (Nat.le_of_ble_eq_true rfl) (pX0_isShelf ?_)
  refine r_if_ne 9 dX0_element_4 (by decide) (fun _ => ?_) (fun c_ => absurd c_ (in8 hj))
  refine r_aload_n dX0_element_9 rfl ?_
  refine r_iload_n dX0_element_10 rfl ?_
  refine r_xV (as := [_]) oxX0_rowIn bX0 rfl rfl q415 dX0_element_11 (Nat.le_of_ble_eq_true rfl) rfl (Nat.le_of_ble_eq_true rfl) (Nat.le_of_ble_eq_true rfl) (Nat.le_of_ble_eq_true rfl) (pX0_rowIn_r hj e1 hg ?_)
  refine r_iload_n dX0_element_14 rfl ?_
  refine r_xS (as := [_, _]) oxX0_elementOf q508 dX0_element_15 (Nat.le_of_ble_eq_true rfl) rfl (Nat.le_of_ble_eq_true rfl) (Nat.le_of_ble_eq_true rfl) (Nat.le_of_ble_eq_true rfl) (pX0_elementOf hk hm hg hke (fun q hq eq => ?_) (fun hi => ?_))
  · exact r_lret dX0_element_18 rfl (Nat.le_of_ble_eq_true rfl) (Nat.le_of_ble_eq_true rfl) (hQ q hq eq)
  · refine rt_catch (hp := 22) (fun G hG => srN hG (by decide) (by decide) q395 nc_ArrayIndexOutOfBounds_Refused (srY (by decide) (by decide) q396 q411)) ?_
    refine r_astore_n dX0_element_22 (Nat.le_of_ble_eq_true rfl) ?_
    refine r_lconst 0 dX0_element_23 (by decide) ?_
    exact r_lret dX0_element_24 rfl (Nat.le_of_ble_eq_true rfl) (Nat.le_of_ble_eq_true rfl) (hN hi _)
theorem pX0_row_bad {h2 : List AC} {s t n : Int32} {Q : OC → AHp → Prop} (hb : inB s 0 7 = false ∨ t < 0 ∨ 4 < t ∨ 40 < n) (hQ : ∀ r3, Q (.inl (some (.int (-2)))) (r0, (xC (.ref 2) iv tP tL tA tK tC tS tH tN tE tZ tf mP mf eP eT eF ef eg ew rx gx wx hv tp td (upd rf 2 (rf 2 + 1)) rc ic), h2, r3)) : AMetX mX0_row 3 3 54 [.ref 1, .int s, .int t, .int n] (r0, (xC (.ref 2) iv tP tL tA tK tC tS tH tN tE tZ tf mP mf eP eT eF ef eg ew rx gx wx hv tp td rf rc ic), h2, r3) Q := by
  refine AMetX.ofRch rfl (Nat.le_of_ble_eq_true rfl) ?_
  refine r_iload_n dX0_row_0 rfl ?_
  refine r_callS (as := [_]) okX0_isShelf q375 dX0_row_1 (Nat.le_of_ble_eq_true rfl) rfl (Nat.le_of_ble_eq_true rfl) (Nat.le_of_ble_eq_true rfl) (Nat.le_of_ble_eq_true rfl) (pX0_isShelf ?_)
  refine r_if_eq 22 dX0_row_4 (by decide) (fun c_4 => ?_) (fun c_4 => ?_)
  · refine r_aload_n dX0_row_22 rfl ?_
    refine r_bipush (-2) dX0_row_23 (by decide) ?_
    refine r_callV (as := [_]) okX0_no bX0 rfl rfl q381 dX0_row_25 (Nat.le_of_ble_eq_true rfl) rfl (Nat.le_of_ble_eq_true rfl) (Nat.le_of_ble_eq_true rfl) (Nat.le_of_ble_eq_true rfl) (pX0_no 2 (by decide) (by decide) ?_)
    exact r_iret dX0_row_28 rfl (Nat.le_of_ble_eq_true rfl) (Nat.le_of_ble_eq_true rfl) (hQ _)
  · refine r_iload_n dX0_row_7 rfl ?_
    refine r_if_lt 22 dX0_row_8 (by decide) (fun c_8 => ?_) (fun c_8 => ?_)
    · refine r_aload_n dX0_row_22 rfl ?_
      refine r_bipush (-2) dX0_row_23 (by decide) ?_
      refine r_callV (as := [_]) okX0_no bX0 rfl rfl q381 dX0_row_25 (Nat.le_of_ble_eq_true rfl) rfl (Nat.le_of_ble_eq_true rfl) (Nat.le_of_ble_eq_true rfl) (Nat.le_of_ble_eq_true rfl) (pX0_no 2 (by decide) (by decide) ?_)
      exact r_iret dX0_row_28 rfl (Nat.le_of_ble_eq_true rfl) (Nat.le_of_ble_eq_true rfl) (hQ _)
    · refine r_iload_n dX0_row_11 rfl ?_
      refine r_iconst 4 dX0_row_12 (by decide) ?_
      refine r_icmp_gt 22 dX0_row_13 (by decide) (fun c_13 => ?_) (fun c_13 => ?_)
      · refine r_aload_n dX0_row_22 rfl ?_
        refine r_bipush (-2) dX0_row_23 (by decide) ?_
        refine r_callV (as := [_]) okX0_no bX0 rfl rfl q381 dX0_row_25 (Nat.le_of_ble_eq_true rfl) rfl (Nat.le_of_ble_eq_true rfl) (Nat.le_of_ble_eq_true rfl) (Nat.le_of_ble_eq_true rfl) (pX0_no 2 (by decide) (by decide) ?_)
        exact r_iret dX0_row_28 rfl (Nat.le_of_ble_eq_true rfl) (Nat.le_of_ble_eq_true rfl) (hQ _)
      · refine r_iload_n dX0_row_16 rfl ?_
        refine r_bipush 40 dX0_row_17 (by decide) ?_
        refine r_icmp_le 29 dX0_row_19 (by decide) (fun c_19 => ?_) (fun c_19 => ?_)
        · exfalso
          rcases hb with z | z | z | z
          · exact c_4 (b2i_0.mpr z)
          · exact c_8 z
          · exact c_13 z
          · exact absurd z (Int32.not_lt.mpr c_19)
        · refine r_aload_n dX0_row_22 rfl ?_
          refine r_bipush (-2) dX0_row_23 (by decide) ?_
          refine r_callV (as := [_]) okX0_no bX0 rfl rfl q381 dX0_row_25 (Nat.le_of_ble_eq_true rfl) rfl (Nat.le_of_ble_eq_true rfl) (Nat.le_of_ble_eq_true rfl) (Nat.le_of_ble_eq_true rfl) (pX0_no 2 (by decide) (by decide) ?_)
          exact r_iret dX0_row_28 rfl (Nat.le_of_ble_eq_true rfl) (Nat.le_of_ble_eq_true rfl) (hQ _)
theorem pX0_row {h2 : List AC} {j : Nat} {Q : OC → AHp → Prop} {k : Nat} {n : Int32} (hj : j < 8) (hk : k < 5) (hn : ¬ 40 < n) (hN : n < 0 → ∀ r3, Q (.inl (some (.int (-2)))) (r0, (xC (.ref 2) iv tP tL tA tK tC tS tH tN tE tZ tf mP mf eP eT eF ef eg ew rx gx wx hv tp td (upd rf 2 (rf 2 + 1)) rc ic), h2, r3)) (hQ : ∀ m, m ≤ 40 → n = nI m → Q (.inl (some (.int 1))) (r0, (xC (.ref 2) iv tP tL tA tK tC tS tH tN tE tZ tf mP mf eP eT eF ef eg ew rx gx wx (va_up hv j (.ref (8 * r3.length + 3))) tp td rf rc ic), h2, r3 ++ [rwC k m (fun _ => 0)])) : AMetX mX0_row 3 3 54 [.ref 1, .int (nI j), .int (nI k), .int n] (r0, (xC (.ref 2) iv tP tL tA tK tC tS tH tN tE tZ tf mP mf eP eT eF ef eg ew rx gx wx hv tp td rf rc ic), h2, r3) Q := by
  refine AMetX.ofRch rfl (Nat.le_of_ble_eq_true rfl) ?_
  have k1 : ¬ nI k < 0 := nI_pos (by omega)
  have k2 : ¬ 4 < nI k := Int32.not_lt.mpr (nI_le (b := 4) (by omega) (by decide))
  have n2 : n ≤ 40 := Int32.not_lt.mp hn
  refine r_iload_n dX0_row_0 rfl ?_
  refine r_callS (as := [_]) okX0_isShelf q375 dX0_row_1 (Nat.le_of_ble_eq_true rfl) rfl (Nat.le_of_ble_eq_true rfl) (Nat.le_of_ble_eq_true rfl) (Nat.le_of_ble_eq_true rfl) (pX0_isShelf ?_)
  refine r_if_eq 22 dX0_row_4 (by decide) (fun c_ => absurd c_ (in8 hj)) (fun _ => ?_)
  refine r_iload_n dX0_row_7 rfl ?_
  refine r_if_lt 22 dX0_row_8 (by decide) (fun c_ => absurd c_ (k1)) (fun _ => ?_)
  refine r_iload_n dX0_row_11 rfl ?_
  refine r_iconst 4 dX0_row_12 (by decide) ?_
  refine r_icmp_gt 22 dX0_row_13 (by decide) (fun c_ => absurd c_ (k2)) (fun _ => ?_)
  refine r_iload_n dX0_row_16 rfl ?_
  refine r_bipush 40 dX0_row_17 (by decide) ?_
  refine r_icmp_le 29 dX0_row_19 (by decide) (fun _ => ?_) (fun c_ => absurd (n2) c_)
  refine r_aload_n dX0_row_29 rfl ?_
  refine r_get bX0 8 (by decide) q254 dX0_row_30 rfl rfl ?_
  refine r_iload_n dX0_row_33 rfl ?_
  refine r_aald_sheet dX0_row_34 rfl (vp_in_nI (by omega) (by omega)) ?_
  rw [nI_clamp (by omega)]
  refine r_iload_n dX0_row_35 rfl ?_
  refine r_iload_n dX0_row_36 rfl ?_
  refine r_xS (as := [_, _]) oxX0_rowOf q385 dX0_row_37 (Nat.le_of_ble_eq_true rfl) rfl (Nat.le_of_ble_eq_true rfl) (Nat.le_of_ble_eq_true rfl) (Nat.le_of_ble_eq_true rfl) (pX0_rowOf hk hn (fun m hm em => ?_) (fun h0 => ?_))
  · show Rch _ _ _ _ _ _ (r0, (xC (.ref 2) iv tP tL tA tK tC tS tH tN tE tZ tf mP mf eP eT eF ef eg ew rx gx wx hv tp td rf rc ic), h2, r3 ++ [rwC k m (fun _ => 0)])
    refine r_put bX4 0 (by decide) rfl q242 dX0_row_40 rfl rfl (sh_at hj) (Nat.le_of_ble_eq_true rfl) ?_
    show Rch _ _ _ _ _ _ (aSet _ _ (.inr (4, [.ref (8 * r3.length + 3)])))
    rw [sh_set hj]
    refine r_goto 55 dX0_row_43 (by decide) ?_
    refine r_iconst 1 dX0_row_55 (by decide) ?_
    exact r_iret dX0_row_56 rfl (Nat.le_of_ble_eq_true rfl) (Nat.le_of_ble_eq_true rfl) (hQ m hm em)
  · refine rt_catch (hp := 46) (fun G hG => srY (by decide) (by decide) q287 q352) ?_
    refine r_astore dX0_row_46 (Nat.le_of_ble_eq_true rfl) ?_
    refine r_aload_n dX0_row_48 rfl ?_
    refine r_bipush (-2) dX0_row_49 (by decide) ?_
    refine r_callV (as := [_]) okX0_no bX0 rfl rfl q381 dX0_row_51 (Nat.le_of_ble_eq_true rfl) rfl (Nat.le_of_ble_eq_true rfl) (Nat.le_of_ble_eq_true rfl) (Nat.le_of_ble_eq_true rfl) (pX0_no 2 (by decide) (by decide) ?_)
    exact r_iret dX0_row_54 rfl (Nat.le_of_ble_eq_true rfl) (Nat.le_of_ble_eq_true rfl) (hN h0 _)
end XX
