set_option maxRecDepth 100000
/-! the component: setOut -/
section XX
variable {iv : Value} {tP : Nat → Int32} {tL : Nat → Option Nat} {tA tK tC tS tH : Nat → Int32} {tN tE tZ tf : Int32} {mP : Nat → Int32} {mf : Int32} {eP eT eF : Nat → Int32} {ef eg : Int32} {ew : Value} {rx gx wx : Nat → Int32} {hv : Nat → Value} {tp : Nat → Int32} {td : Int32} {rf : Nat → Int32} {rc ic : Nat → AC} {th : Nat → Int32} {pf : Int32} {nl : Nat → Option Nat} {ag lk co sh hs : Nat → Int32} {my ev se : Int32} {lc : Nat → AC} {r0 r3 : List AC} {Q : Option Value → AHp → Prop} {n : Nat} {kN : Nat → Nat} {ow : Nat → Int32}
theorem pX0_fewestOut {s : Int32} (hn : n ≤ 8) (hL : LkI lc r3 nl kN ow n) (hP : ThI th) (hs1 : inB s 0 (allS n) = true) (hS : ∀ L, seF (fun d => ppF kN ow lk ag n (soF ow s n) s d th) 4 0 = some L → L.length < 4 → ∀ (rx mP eP eT eF : Nat → Int32) (ef eg : Int32) (ew : Value), (∀ k, k < L.length → rx k = L.getD k 0) → Q (some (.int (nI L.length))) (r0, (xC (.ref 2) iv tP tL tA tK tC tS tH tN tE tZ tf mP mf eP eT eF ef eg ew rx gx wx hv tp td rf rc ic), (wC th pf nl ag lk co sh hs (nI n) ev se lc), r3)) (hN : seF (fun d => ppF kN ow lk ag n (soF ow s n) s d th) 4 0 = none → ∀ (rx mP eP eT eF : Nat → Int32) (ef eg : Int32) (ew : Value), Q (some (.int (-1))) (r0, (xC (.ref 2) iv tP tL tA tK tC tS tH tN tE tZ tf mP mf eP eT eF ef eg ew rx gx wx hv tp td rf rc ic), (wC th pf nl ag lk co sh hs (nI n) ev se lc), r3)) : AMet mX0_fewestOut 14 0 0 [.ref 1, .int s] (r0, (xC (.ref 2) iv tP tL tA tK tC tS tH tN tE tZ tf mP mf eP eT eF ef eg ew rx gx wx hv tp td rf rc ic), (wC th pf nl ag lk co sh hs (nI n) ev se lc), r3) Q := by
  refine AMet.ofRch rfl rfl (Nat.le_of_ble_eq_true rfl) ?_
  refine r_iconst 0 dX0_fewestOut_0 (by decide) ?_
  refine r_istore_n dX0_fewestOut_1 (Nat.le_of_ble_eq_true rfl) ?_
  refine loopUp (N := 4) (P := fun d => seF (fun d => ppF kN ow lk ag n (soF ow s n) s d th) 4 0 = seF (fun d => ppF kN ow lk ag n (soF ow s n) s d th) (4 - d) d → ∀ (rx mP eP eT eF : Nat → Int32) (ef eg : Int32) (ew : Value), Rch (mX0_fewestOut, 14, 0, 0, oQ Q) 0 0 2 [some (.ref 1), some (.int s), some (.int (nI d))] [] (r0, (xC (.ref 2) iv tP tL tA tK tC tS tH tN tE tZ tf mP mf eP eT eF ef eg ew rx gx wx hv tp td rf rc ic), (wC th pf nl ag lk co sh hs (nI n) ev se lc), r3)) ?_ ?_ rfl _ _ _ _ _ _ _ _
  · intro e rx mP eP eT eF ef eg ew
    refine r_iload_n dX0_fewestOut_2 rfl ?_
    refine r_iconst 3 dX0_fewestOut_3 (by decide) ?_
    refine r_icmp_gt 40 dX0_fewestOut_4 (by decide) (fun _ => ?_) (fun c_ => absurd (by decide) c_)
    refine r_iconst (-1) dX0_fewestOut_40 (by decide) ?_
    exact r_iret dX0_fewestOut_41 rfl (Nat.le_of_ble_eq_true rfl) (Nat.le_of_ble_eq_true rfl) (hN (by rw [e]; rfl) _ _ _ _ _ _ _ _)
  · intro d hd4 ih e rx mP eP eT eF ef eg ew
    have ed : 4 - d = (4 - (d + 1)) + 1 := by omega
    rw [ed] at e
    have e := e.trans (show seF (fun d => ppF kN ow lk ag n (soF ow s n) s d th) (4 - (d + 1) + 1) d = (match ppF kN ow lk ag n (soF ow s n) s d th with
      | some L => some L
      | none => seF (fun d => ppF kN ow lk ag n (soF ow s n) s d th) (4 - (d + 1)) (d + 1)) from rfl)
    have hPg := fun Q' h' => pX0_makesGlad (iv := iv) (tP := tP) (tL := tL) (tA := tA) (tK := tK) (tC := tC) (tS := tS) (tH := tH) (tN := tN) (tE := tE) (tZ := tZ) (tf := tf) (mf := mf) (gx := gx) (wx := wx) (hv := hv) (tp := tp) (td := td) (rf := rf) (rc := rc) (ic := ic) (th := th) (pf := pf) (nl := nl) (ag := ag) (lk := lk) (co := co) (sh := sh) (hs := hs) (ev := ev) (se := se) (lc := lc) (r0 := r0) (r3 := r3) (kN := kN) (ow := ow) (s := s) hn hL hs1 d 0 th rx eP eT eF ef eg ew Q' (by omega) hP h'
    simp only [Nat.zero_add] at hPg
    have n3 : ¬ nI 3 < nI d := Int32.not_lt.mpr (nI_le (by omega) (by decide))
    refine r_iload_n dX0_fewestOut_2 rfl ?_
    refine r_iconst 3 dX0_fewestOut_3 (by decide) ?_
    refine r_icmp_gt 40 dX0_fewestOut_4 (by decide) (fun c_ => absurd c_ (n3)) (fun _ => ?_)
    refine r_aload_n dX0_fewestOut_7 rfl ?_
    refine r_get bX0 3 (by decide) q249 dX0_fewestOut_8 rfl rfl ?_
    refine r_aload_n dX0_fewestOut_11 rfl ?_
    refine r_get bX0 0 (by decide) q246 dX0_fewestOut_12 rfl rfl ?_
    refine r_get bX1 0 (by decide) q160 dX0_fewestOut_15 rfl rfl ?_
    refine r_callV (as := [_]) okX2_becomes bX2 rfl rfl q1322 dX0_fewestOut_18 (by show _ ≤ 14; omega) rfl (Nat.le_of_ble_eq_true rfl) (Nat.le_of_ble_eq_true rfl) (Nat.le_of_ble_eq_true rfl) (pX2_becomes (a := 81) (s := 89) (b := 10) rfl rfl rfl rfl ?_)
    refine r_pop dX0_fewestOut_21 rfl ?_
    refine r_aload_n dX0_fewestOut_22 rfl ?_
    refine r_iload_n dX0_fewestOut_23 rfl ?_
    refine r_iconst 0 dX0_fewestOut_24 (by decide) ?_
    refine r_iload_n dX0_fewestOut_25 rfl ?_
    refine r_callV (as := [_, _, _]) okX0_makesGlad bX0 rfl rfl q1337 dX0_fewestOut_26 (by show _ ≤ 14; omega) rfl (Nat.le_of_ble_eq_true rfl) (Nat.le_of_ble_eq_true rfl) (Nat.le_of_ble_eq_true rfl) (hPg _ (fun rx3 mP3 eP3 eT3 eF3 ef3 eg3 ew3 hm3 hn3 => ?_))
    refine r_if_eq 34 dX0_fewestOut_29 (by decide) (fun c_29 => ?_) (fun c_29 => ?_)
    · refine r_iincV dX0_fewestOut_34 rfl (Nat.le_of_ble_eq_true rfl) (incN _) ?_
      refine r_goto 2 dX0_fewestOut_37 (by decide) ?_
      have q1 := b2i_0.mp c_29
      cases hF : ppF kN ow lk ag n (soF ow s n) s d th with
      | some L => rw [hF] at q1; cases q1
      | none =>
        rw [hF] at e
        exact ih e _ _ _ _ _ _ _ _
    · have q1 := b2i_n.mp c_29
      cases hF : ppF kN ow lk ag n (soF ow s n) s d th with
      | none => rw [hF] at q1; cases q1
      | some L =>
        rw [hF] at e
        have el := ppF_len d th L hF
        subst el
        refine r_iload_n dX0_fewestOut_32 rfl ?_
        exact r_iret dX0_fewestOut_33 rfl (Nat.le_of_ble_eq_true rfl) (Nat.le_of_ble_eq_true rfl) (hS L e hd4 _ _ _ _ _ _ _ _ (fun k hk => by have := hm3.2 L hF k hk; rw [Nat.zero_add] at this; exact this))
theorem pX0_setOut {s i : Int32} (hn : n ≤ 8) (hL : LkI lc r3 nl kN ow n) (hP : ThI th) (hbad : inB s 0 (allS n) = false ∨ i < -1 → Q (some (.int (-2))) (r0, (xC (.ref 2) iv tP tL tA tK tC tS tH tN tE tZ tf mP mf eP eT eF ef eg ew rx gx wx hv tp td (upd rf 2 (rf 2 + 1)) rc ic), (wC th pf nl ag lk co sh hs (nI n) ev se lc), r3)) (h1 : inB s 0 (allS n) = true → i = -1 → ∀ (rx mP eP eT eF : Nat → Int32) (ef eg : Int32) (ew : Value), Q (some (.int (match seF (fun d => ppF kN ow lk ag n (soF ow s n) s d th) 4 0 with
    | some L => nI L.length
    | none => -1))) (r0, (xC (.ref 2) iv tP tL tA tK tC tS tH tN tE tZ tf mP mf eP eT eF ef eg ew rx gx wx hv tp td rf rc ic), (wC th pf nl ag lk co sh hs (nI n) ev se lc), r3)) (h2 : inB s 0 (allS n) = true → ∀ q L, q < 2 ^ 31 → i = nI q → seF (fun d => ppF kN ow lk ag n (soF ow s n) s d th) 4 0 = some L → q < L.length → ∀ (rx mP eP eT eF : Nat → Int32) (ef eg : Int32) (ew : Value), Q (some (.int (L.getD q 0))) (r0, (xC (.ref 2) iv tP tL tA tK tC tS tH tN tE tZ tf mP mf eP eT eF ef eg ew rx gx wx hv tp td rf rc ic), (wC th pf nl ag lk co sh hs (nI n) ev se lc), r3)) (h3 : inB s 0 (allS n) = true → ∀ q, q < 2 ^ 31 → i = nI q → (∀ L, seF (fun d => ppF kN ow lk ag n (soF ow s n) s d th) 4 0 = some L → ¬ q < L.length) → ∀ (rx mP eP eT eF : Nat → Int32) (ef eg : Int32) (ew : Value), Q (some (.int (-5))) (r0, (xC (.ref 2) iv tP tL tA tK tC tS tH tN tE tZ tf mP mf eP eT eF ef eg ew rx gx wx hv tp td (upd rf 5 (rf 5 + 1)) rc ic), (wC th pf nl ag lk co sh hs (nI n) ev se lc), r3)) : AMet mX0_setOut 15 0 0 [.ref 1, .int s, .int i] (r0, (xC (.ref 2) iv tP tL tA tK tC tS tH tN tE tZ tf mP mf eP eT eF ef eg ew rx gx wx hv tp td rf rc ic), (wC th pf nl ag lk co sh hs (nI n) ev se lc), r3) Q := by
  refine AMet.ofRch rfl rfl (Nat.le_of_ble_eq_true rfl) ?_
  have hgo : inB s 0 (allS n) = true → ¬ i < -1 → Rch (mX0_setOut, 15, 0, 0, oQ Q) 0 0 20 [some (.ref 1), some (.int s), some (.int i), none] [] (r0, (xC (.ref 2) iv tP tL tA tK tC tS tH tN tE tZ tf mP mf eP eT eF ef eg ew rx gx wx hv tp td rf rc ic), (wC th pf nl ag lk co sh hs (nI n) ev se lc), r3) := by
    intro g1 g2
    by_cases e : i = -1
    · subst e
      have hq := h1 g1 rfl
      refine r_aload_n dX0_setOut_20 rfl ?_
      refine r_iload_n dX0_setOut_21 rfl ?_
      refine r_callV (as := [_]) okX0_fewestOut bX0 rfl rfl q1333 dX0_setOut_22 (Nat.le_of_ble_eq_true rfl) rfl (Nat.le_of_ble_eq_true rfl) (Nat.le_of_ble_eq_true rfl) (Nat.le_of_ble_eq_true rfl) (pX0_fewestOut hn hL hP g1 (fun L eL hl4 rx mP eP eT eF ef eg ew hrx => ?_) (fun eN rx mP eP eT eF ef eg ew => ?_))
      · rw [eL] at hq
        refine r_istore_n dX0_setOut_25 (Nat.le_of_ble_eq_true rfl) ?_
        refine r_iload_n dX0_setOut_26 rfl ?_
        refine r_iconst (-1) dX0_setOut_27 (by decide) ?_
        refine r_icmp_ne 35 dX0_setOut_28 (by decide) (fun c_ => absurd (rfl) c_) (fun _ => ?_)
        refine r_iload_n dX0_setOut_31 rfl ?_
        refine r_goto 55 dX0_setOut_32 (by decide) ?_
        exact r_iret dX0_setOut_55 rfl (Nat.le_of_ble_eq_true rfl) (Nat.le_of_ble_eq_true rfl) (hq _ _ _ _ _ _ _ _)
      · rw [eN] at hq
        refine r_istore_n dX0_setOut_25 (Nat.le_of_ble_eq_true rfl) ?_
        refine r_iload_n dX0_setOut_26 rfl ?_
        refine r_iconst (-1) dX0_setOut_27 (by decide) ?_
        refine r_icmp_ne 35 dX0_setOut_28 (by decide) (fun c_ => absurd (rfl) c_) (fun _ => ?_)
        refine r_iload_n dX0_setOut_31 rfl ?_
        refine r_goto 55 dX0_setOut_32 (by decide) ?_
        exact r_iret dX0_setOut_55 rfl (Nat.le_of_ble_eq_true rfl) (Nat.le_of_ble_eq_true rfl) (hq _ _ _ _ _ _ _ _)
    · have h0 : ¬ i < 0 := by
        intro z
        have z1 := Int32.lt_iff_toInt_lt.mp z
        have z2 : ¬ i.toInt < (-1 : Int32).toInt := fun y => g2 (Int32.lt_iff_toInt_lt.mpr y)
        have e0 : (0 : Int32).toInt = 0 := by decide
        have e1 : (-1 : Int32).toInt = -1 := by decide
        have e2 : i.toInt ≠ -1 := fun y => e (Int32.toInt_inj.mp (y.trans e1.symm))
        omega
      obtain ⟨q, hq31, rfl⟩ := nI_of h0
      refine r_aload_n dX0_setOut_20 rfl ?_
      refine r_iload_n dX0_setOut_21 rfl ?_
      refine r_callV (as := [_]) okX0_fewestOut bX0 rfl rfl q1333 dX0_setOut_22 (Nat.le_of_ble_eq_true rfl) rfl (Nat.le_of_ble_eq_true rfl) (Nat.le_of_ble_eq_true rfl) (Nat.le_of_ble_eq_true rfl) (pX0_fewestOut hn hL hP g1 (fun L eL hl4 rx mP eP eT eF ef eg ew hrx => ?_) (fun eN rx mP eP eT eF ef eg ew => ?_))
      · by_cases hql : q < L.length
        · have hrq := hrx q hql
          refine r_istore_n dX0_setOut_25 (Nat.le_of_ble_eq_true rfl) ?_
          refine r_iload_n dX0_setOut_26 rfl ?_
          refine r_iconst (-1) dX0_setOut_27 (by decide) ?_
          refine r_icmp_ne 35 dX0_setOut_28 (by decide) (fun _ => ?_) (fun c_ => absurd c_ (e))
          refine r_iload_n dX0_setOut_35 rfl ?_
          refine r_iload_n dX0_setOut_36 rfl ?_
          refine r_icmp_ge 49 dX0_setOut_37 (by decide) (fun c_ => absurd c_ (nI_ge hql (by omega))) (fun _ => ?_)
          refine r_aload_n dX0_setOut_40 rfl ?_
          refine r_get bX0 5 (by decide) q251 dX0_setOut_41 rfl rfl ?_
          refine r_iload_n dX0_setOut_44 rfl ?_
          refine r_ialdN dX0_setOut_45 rfl (by omega) (Nat.le_of_ble_eq_true rfl) ?_
          rw [hrq]
          refine r_goto 55 dX0_setOut_46 (by decide) ?_
          exact r_iret dX0_setOut_55 rfl (Nat.le_of_ble_eq_true rfl) (Nat.le_of_ble_eq_true rfl) (h2 g1 q L hq31 rfl eL hql _ _ _ _ _ _ _ _)
        · refine r_istore_n dX0_setOut_25 (Nat.le_of_ble_eq_true rfl) ?_
          refine r_iload_n dX0_setOut_26 rfl ?_
          refine r_iconst (-1) dX0_setOut_27 (by decide) ?_
          refine r_icmp_ne 35 dX0_setOut_28 (by decide) (fun _ => ?_) (fun c_ => absurd c_ (e))
          refine r_iload_n dX0_setOut_35 rfl ?_
          refine r_iload_n dX0_setOut_36 rfl ?_
          refine r_icmp_ge 49 dX0_setOut_37 (by decide) (fun _ => ?_) (fun c_ => absurd (nI_le (by omega) (by omega)) c_)
          refine r_aload_n dX0_setOut_49 rfl ?_
          refine r_bipush (-5) dX0_setOut_50 (by decide) ?_
          refine r_callV (as := [_]) okX0_no bX0 rfl rfl q381 dX0_setOut_52 (Nat.le_of_ble_eq_true rfl) rfl (Nat.le_of_ble_eq_true rfl) (Nat.le_of_ble_eq_true rfl) (Nat.le_of_ble_eq_true rfl) (pX0_no 5 (by decide) (by decide) ?_)
          exact r_iret dX0_setOut_55 rfl (Nat.le_of_ble_eq_true rfl) (Nat.le_of_ble_eq_true rfl) (h3 g1 q hq31 rfl (fun L2 hL2 => by rw [eL] at hL2; cases hL2; exact hql) _ _ _ _ _ _ _ _)
      · refine r_istore_n dX0_setOut_25 (Nat.le_of_ble_eq_true rfl) ?_
        refine r_iload_n dX0_setOut_26 rfl ?_
        refine r_iconst (-1) dX0_setOut_27 (by decide) ?_
        refine r_icmp_ne 35 dX0_setOut_28 (by decide) (fun _ => ?_) (fun c_ => absurd c_ (e))
        refine r_iload_n dX0_setOut_35 rfl ?_
        refine r_iload_n dX0_setOut_36 rfl ?_
        refine r_icmp_ge 49 dX0_setOut_37 (by decide) (fun _ => ?_) (fun c_ => absurd (Int32.le_trans (by decide) (nI_pos' hq31)) c_)
        refine r_aload_n dX0_setOut_49 rfl ?_
        refine r_bipush (-5) dX0_setOut_50 (by decide) ?_
        refine r_callV (as := [_]) okX0_no bX0 rfl rfl q381 dX0_setOut_52 (Nat.le_of_ble_eq_true rfl) rfl (Nat.le_of_ble_eq_true rfl) (Nat.le_of_ble_eq_true rfl) (Nat.le_of_ble_eq_true rfl) (pX0_no 5 (by decide) (by decide) ?_)
        exact r_iret dX0_setOut_55 rfl (Nat.le_of_ble_eq_true rfl) (Nat.le_of_ble_eq_true rfl) (h3 g1 q hq31 rfl (fun L2 hL2 => by rw [eN] at hL2; cases hL2) _ _ _ _ _ _ _ _)
  refine r_aload_n dX0_setOut_0 rfl ?_
  refine r_iload_n dX0_setOut_1 rfl ?_
  refine r_callV (as := [_]) okX0_isSet bX0 rfl rfl q1219 dX0_setOut_2 (Nat.le_of_ble_eq_true rfl) rfl (Nat.le_of_ble_eq_true rfl) (Nat.le_of_ble_eq_true rfl) (Nat.le_of_ble_eq_true rfl) (pX0_isSet hn ?_)
  refine r_if_eq 13 dX0_setOut_5 (by decide) (fun c_5 => ?_) (fun c_5 => ?_)
  · refine r_aload_n dX0_setOut_13 rfl ?_
    refine r_bipush (-2) dX0_setOut_14 (by decide) ?_
    refine r_callV (as := [_]) okX0_no bX0 rfl rfl q381 dX0_setOut_16 (Nat.le_of_ble_eq_true rfl) rfl (Nat.le_of_ble_eq_true rfl) (Nat.le_of_ble_eq_true rfl) (Nat.le_of_ble_eq_true rfl) (pX0_no 2 (by decide) (by decide) ?_)
    exact r_iret dX0_setOut_19 rfl (Nat.le_of_ble_eq_true rfl) (Nat.le_of_ble_eq_true rfl) (hbad (by first | exact Or.inl (b2i_0.mp c_5) | exact Or.inr (Int32.not_le.mp c_10)))
  · refine r_iload_n dX0_setOut_8 rfl ?_
    refine r_iconst (-1) dX0_setOut_9 (by decide) ?_
    refine r_icmp_ge 20 dX0_setOut_10 (by decide) (fun c_10 => ?_) (fun c_10 => ?_)
    · exact hgo (b2i_n.mp c_5) (Int32.not_lt.mpr c_10)
    · refine r_aload_n dX0_setOut_13 rfl ?_
      refine r_bipush (-2) dX0_setOut_14 (by decide) ?_
      refine r_callV (as := [_]) okX0_no bX0 rfl rfl q381 dX0_setOut_16 (Nat.le_of_ble_eq_true rfl) rfl (Nat.le_of_ble_eq_true rfl) (Nat.le_of_ble_eq_true rfl) (Nat.le_of_ble_eq_true rfl) (pX0_no 2 (by decide) (by decide) ?_)
      exact r_iret dX0_setOut_19 rfl (Nat.le_of_ble_eq_true rfl) (Nat.le_of_ble_eq_true rfl) (hbad (by first | exact Or.inl (b2i_0.mp c_5) | exact Or.inr (Int32.not_le.mp c_10)))
end XX
