set_option maxRecDepth 100000
/-! the component: judge -/
section XX
variable {iv : Value} {tP : Nat → Int32} {tL : Nat → Option Nat} {tA tK tC tS tH : Nat → Int32} {tN tE tZ tf : Int32} {mP : Nat → Int32} {mf : Int32} {eP eT eF : Nat → Int32} {ef eg : Int32} {ew : Value} {rx gx wx : Nat → Int32} {hv : Nat → Value} {tp : Nat → Int32} {td : Int32} {rf : Nat → Int32} {rc ic : Nat → AC} {th : Nat → Int32} {pf : Int32} {nl : Nat → Option Nat} {ag lk co sh hs : Nat → Int32} {my ev se : Int32} {lc : Nat → AC} {r0 r3 : List AC} {Q : Option Value → AHp → Prop} {n : Nat} {kN : Nat → Nat} {ow : Nat → Int32}
theorem pX0_judge_bad {h2 : List AC} {s z : Int32} {Q : OC → AHp → Prop} (hb : (inB s 0 7 && inB z 0 20) = false) (hQ : ∀ r3, Q (.inl (some (.int (-2)))) (r0, (xC (.ref 2) iv tP tL tA tK tC tS tH tN tE tZ tf mP mf eP eT eF ef eg ew rx gx wx hv tp td (upd rf 2 (rf 2 + 1)) rc ic), h2, r3)) : AMetX mX0_judge 11 6 300 [.ref 1, .int s, .int z] (r0, (xC (.ref 2) iv tP tL tA tK tC tS tH tN tE tZ tf mP mf eP eT eF ef eg ew rx gx wx hv tp td rf rc ic), h2, r3) Q := by
  refine AMetX.ofRch rfl (Nat.le_of_ble_eq_true rfl) ?_
  refine r_aload_n dX0_judge_0 rfl ?_
  refine r_aload_n dX0_judge_1 rfl ?_
  refine r_iload_n dX0_judge_2 rfl ?_
  refine r_iload_n dX0_judge_3 rfl ?_
  refine r_xV (as := [_, _]) oxX0_toldIn bX0 rfl rfl q1445 dX0_judge_4 (Nat.le_of_ble_eq_true rfl) rfl (Nat.le_of_ble_eq_true rfl) (Nat.le_of_ble_eq_true rfl) (Nat.le_of_ble_eq_true rfl) (pX0_toldIn_bad hb (fun r3 g0 g1 g2 g3 g4 g5 => ?_))
  refine rt_catch (hp := 11) (fun G hG => srY (by decide) (by decide) q395 q421) ?_
  refine r_astore_n dX0_judge_11 (Nat.le_of_ble_eq_true rfl) ?_
  refine r_aload_n dX0_judge_12 rfl ?_
  refine r_aload_n dX0_judge_13 rfl ?_
  refine r_get bX6 6 (by decide) q441 dX0_judge_14 dyn_at rfl ?_
  refine r_callV (as := [_]) okX0_no bX0 rfl rfl q381 dX0_judge_17 (Nat.le_of_ble_eq_true rfl) rfl (Nat.le_of_ble_eq_true rfl) (Nat.le_of_ble_eq_true rfl) (Nat.le_of_ble_eq_true rfl) (pX0_no 2 (by decide) (by decide) ?_)
  exact r_iret dX0_judge_20 rfl (Nat.le_of_ble_eq_true rfl) (Nat.le_of_ble_eq_true rfl) (hQ _)
theorem pX0_judge_0 {h2 : List AC} {j : Nat} {Q : OC → AHp → Prop} {z : Nat} (hj : j < 8) (hz : z ≤ 20) (e1 : hv j = .null) (hQ : ∀ r3, Q (.inl (some (.int (-4)))) (r0, (xC (.ref 2) iv tP tL tA tK tC tS tH tN tE tZ tf mP mf eP eT eF ef eg ew rx gx wx hv tp td (upd rf 4 (rf 4 + 1)) rc ic), h2, r3)) : AMetX mX0_judge 11 6 300 [.ref 1, .int (nI j), .int (nI z)] (r0, (xC (.ref 2) iv tP tL tA tK tC tS tH tN tE tZ tf mP mf eP eT eF ef eg ew rx gx wx hv tp td rf rc ic), h2, r3) Q := by
  refine AMetX.ofRch rfl (Nat.le_of_ble_eq_true rfl) ?_
  refine r_aload_n dX0_judge_0 rfl ?_
  refine r_aload_n dX0_judge_1 rfl ?_
  refine r_iload_n dX0_judge_2 rfl ?_
  refine r_iload_n dX0_judge_3 rfl ?_
  refine r_xV (as := [_, _]) oxX0_toldIn bX0 rfl rfl q1445 dX0_judge_4 (Nat.le_of_ble_eq_true rfl) rfl (Nat.le_of_ble_eq_true rfl) (Nat.le_of_ble_eq_true rfl) (Nat.le_of_ble_eq_true rfl) (pX0_toldIn_0 hj hz e1 (fun r3 g0 g1 g2 g3 g4 g5 => ?_))
  refine rt_catch (hp := 11) (fun G hG => srY (by decide) (by decide) q395 q421) ?_
  refine r_astore_n dX0_judge_11 (Nat.le_of_ble_eq_true rfl) ?_
  refine r_aload_n dX0_judge_12 rfl ?_
  refine r_aload_n dX0_judge_13 rfl ?_
  refine r_get bX6 6 (by decide) q441 dX0_judge_14 dyn_at rfl ?_
  refine r_callV (as := [_]) okX0_no bX0 rfl rfl q381 dX0_judge_17 (Nat.le_of_ble_eq_true rfl) rfl (Nat.le_of_ble_eq_true rfl) (Nat.le_of_ble_eq_true rfl) (Nat.le_of_ble_eq_true rfl) (pX0_no 4 (by decide) (by decide) ?_)
  exact r_iret dX0_judge_20 rfl (Nat.le_of_ble_eq_true rfl) (Nat.le_of_ble_eq_true rfl) (hQ _)
theorem pX0_judge_l {h2 : List AC} {j : Nat} {Q : OC → AHp → Prop} {z : Nat} {a c : Nat} {fs : List Value} (hj : j < 8) (hz : z ≤ 20) (e1 : hv j = .ref a) (hc : c < 6) (hg : aGet (r0, (xC (.ref 2) iv tP tL tA tK tC tS tH tN tE tZ tf mP mf eP eT eF ef eg ew rx gx wx hv tp td rf rc ic), h2, r3) a = some (.inr (7 + c, fs))) (hQ : ∀ r3, Q (.inl (some (.int (-3)))) (r0, (xC (.ref 2) iv tP tL tA tK tC tS tH tN tE tZ tf mP mf eP eT eF ef eg ew rx gx wx hv tp td (upd rf 3 (rf 3 + 1)) rc ic), h2, r3)) : AMetX mX0_judge 11 6 300 [.ref 1, .int (nI j), .int (nI z)] (r0, (xC (.ref 2) iv tP tL tA tK tC tS tH tN tE tZ tf mP mf eP eT eF ef eg ew rx gx wx hv tp td rf rc ic), h2, r3) Q := by
  refine AMetX.ofRch rfl (Nat.le_of_ble_eq_true rfl) ?_
  refine r_aload_n dX0_judge_0 rfl ?_
  refine r_aload_n dX0_judge_1 rfl ?_
  refine r_iload_n dX0_judge_2 rfl ?_
  refine r_iload_n dX0_judge_3 rfl ?_
  refine r_xV (as := [_, _]) oxX0_toldIn bX0 rfl rfl q1445 dX0_judge_4 (Nat.le_of_ble_eq_true rfl) rfl (Nat.le_of_ble_eq_true rfl) (Nat.le_of_ble_eq_true rfl) (Nat.le_of_ble_eq_true rfl) (pX0_toldIn_l hj hz e1 hc hg (fun r3 g0 g1 g2 g3 g4 g5 => ?_))
  refine rt_catch (hp := 11) (fun G hG => srY (by decide) (by decide) q395 q421) ?_
  refine r_astore_n dX0_judge_11 (Nat.le_of_ble_eq_true rfl) ?_
  refine r_aload_n dX0_judge_12 rfl ?_
  refine r_aload_n dX0_judge_13 rfl ?_
  refine r_get bX6 6 (by decide) q441 dX0_judge_14 dyn_at rfl ?_
  refine r_callV (as := [_]) okX0_no bX0 rfl rfl q381 dX0_judge_17 (Nat.le_of_ble_eq_true rfl) rfl (Nat.le_of_ble_eq_true rfl) (Nat.le_of_ble_eq_true rfl) (Nat.le_of_ble_eq_true rfl) (pX0_no 3 (by decide) (by decide) ?_)
  exact r_iret dX0_judge_20 rfl (Nat.le_of_ble_eq_true rfl) (Nat.le_of_ble_eq_true rfl) (hQ _)
theorem pX0_judge_r {j a k m z : Nat} {f : Nat → Int64} {Q : OC → AHp → Prop} (hn : n ≤ 8) (hL : LkI lc r3 nl kN ow n) (hP : ThI th) (hj : j < 8) (hz : z ≤ 20) (e1 : hv j = .ref a) (hk : k < 5) (hm : m ≤ 40) (hg : aGet (r0, (xC (.ref 2) iv tP tL tA tK tC tS tH tN tE tZ tf mP mf eP eT eF ef eg ew rx gx wx hv tp td rf rc ic), (wC th pf nl ag lk co sh hs (nI n) ev se lc), r3) a = some (rwC k m f)) (hke : ∀ q, q < m → keF k (f q) = f q) (hQ : 2 * z ≤ m → ∀ r3, ∀ (eP eT eF : Nat → Int32) (ef eg : Int32) (ew : Value), Q (.inl (some (.int (wrF kN ow lk ag n th (tdF f (2 * z)) 0 z)))) (r0, (xC (.ref 2) iv tP tL tA tK tC tS tH tN tE tZ tf mP mf eP eT eF ef eg ew rx gx wx hv tp td rf rc ic), (wC th pf nl ag lk co sh hs (nI n) ev se lc), r3)) (hN : m < 2 * z → ∀ r3, Q (.inl (some (.int (-2)))) (r0, (xC (.ref 2) iv tP tL tA tK tC tS tH tN tE tZ tf mP mf eP eT eF ef eg ew rx gx wx hv tp td (upd rf 2 (rf 2 + 1)) rc ic), (wC th pf nl ag lk co sh hs (nI n) ev se lc), r3)) : AMetX mX0_judge 11 6 300 [.ref 1, .int (nI j), .int (nI z)] (r0, (xC (.ref 2) iv tP tL tA tK tC tS tH tN tE tZ tf mP mf eP eT eF ef eg ew rx gx wx hv tp td rf rc ic), (wC th pf nl ag lk co sh hs (nI n) ev se lc), r3) Q := by
  refine AMetX.ofRch rfl (Nat.le_of_ble_eq_true rfl) ?_
  refine r_aload_n dX0_judge_0 rfl ?_
  refine r_aload_n dX0_judge_1 rfl ?_
  refine r_iload_n dX0_judge_2 rfl ?_
  refine r_iload_n dX0_judge_3 rfl ?_
  refine r_xV (as := [_, _]) oxX0_toldIn bX0 rfl rfl q1445 dX0_judge_4 (Nat.le_of_ble_eq_true rfl) rfl (Nat.le_of_ble_eq_true rfl) (Nat.le_of_ble_eq_true rfl) (Nat.le_of_ble_eq_true rfl) (pX0_toldIn_r hj hz e1 hk hm hg hke (fun h2z => ?_) (fun h2z r3 g0 g1 g2 g3 g4 g5 => ?_))
  · refine r_callV (as := [_]) okX0_wrongIn bX0 rfl rfl q1449 dX0_judge_7 (Nat.le_of_ble_eq_true rfl) rfl (Nat.le_of_ble_eq_true rfl) (Nat.le_of_ble_eq_true rfl) (Nat.le_of_ble_eq_true rfl) (pX0_wrongIn hn (hL.push _) hP hz (fun x1 => dyn_at) (fun eP eT eF ef eg ew => ?_))
    exact r_iret dX0_judge_10 rfl (Nat.le_of_ble_eq_true rfl) (Nat.le_of_ble_eq_true rfl) (hQ h2z _ _ _ _ _ _ _)
  · refine rt_catch (hp := 11) (fun G hG => srY (by decide) (by decide) q395 q421) ?_
    refine r_astore_n dX0_judge_11 (Nat.le_of_ble_eq_true rfl) ?_
    refine r_aload_n dX0_judge_12 rfl ?_
    refine r_aload_n dX0_judge_13 rfl ?_
    refine r_get bX6 6 (by decide) q441 dX0_judge_14 dyn_at rfl ?_
    refine r_callV (as := [_]) okX0_no bX0 rfl rfl q381 dX0_judge_17 (Nat.le_of_ble_eq_true rfl) rfl (Nat.le_of_ble_eq_true rfl) (Nat.le_of_ble_eq_true rfl) (Nat.le_of_ble_eq_true rfl) (pX0_no 2 (by decide) (by decide) ?_)
    exact r_iret dX0_judge_20 rfl (Nat.le_of_ble_eq_true rfl) (Nat.le_of_ble_eq_true rfl) (hN h2z _)
end XX
