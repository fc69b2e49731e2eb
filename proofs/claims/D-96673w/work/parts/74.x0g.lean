set_option maxRecDepth 100000
/-! the component: kinds, status -/
theorem LkI.push {lc : Nat → AC} {r3 : List AC} {nl : Nat → Option Nat} {kN : Nat → Nat} {ow : Nat → Int32} {n : Nat} (c : List AC) (h : LkI lc r3 nl kN ow n) : LkI lc (r3 ++ c) nl kN ow n := by
  intro i hi
  obtain ⟨h1, h2, h3⟩ := h i hi
  refine ⟨h1, h2, ?_⟩
  rcases h3 with h3 | ⟨j, e1, e2⟩
  · exact Or.inl h3
  · exact Or.inr ⟨j, e1, by rw [List.getElem?_append_left (List.getElem?_eq_some_iff.mp e2).1]; exact e2⟩
theorem LkI.new {lc : Nat → AC} {r3 : List AC} {nl : Nat → Option Nat} {kN : Nat → Nat} {ow : Nat → Int32} {n j k w : Nat} (hj : j < n) (hk : k < 6) (hw : w < 8) (h : LkI lc r3 nl kN ow n) : LkI lc (r3 ++ [.inr (7 + k, [.int (nI j), .int (nI w)])]) (va_up nl j (some (8 * r3.length + 3))) (fun i => if i = j then k else kN i) (upd ow j (nI w)) n := by
  intro i hi
  by_cases e : i = j
  · subst e
    refine ⟨by simp [hk], ⟨w, hw, pk_us⟩, Or.inr ⟨r3.length, by simp [va_up], ?_⟩⟩
    rw [List.getElem?_append_right (Nat.le_refl _), Nat.sub_self]
    show some _ = some (lkO _ _ i)
    simp only [lkO, if_true, pk_us]
  · obtain ⟨h1, ⟨v, hv, ev⟩, h3⟩ := h.push [.inr (7 + k, [.int (nI j), .int (nI w)])] i hi
    have e3 : lkO (fun i => if i = j then k else kN i) (upd ow j (nI w)) i = lkO kN ow i := by
      simp only [lkO, if_neg e, pk_un e]
    refine ⟨by simp [e]; exact h1, ⟨v, hv, by rw [pk_un e]; exact ev⟩, ?_⟩
    rw [e3]
    rcases h3 with ⟨q, g1, g2, g3⟩ | ⟨q, g1, g2⟩
    · exact Or.inl ⟨q, g1, by simp [va_up, e]; exact g2, g3⟩
    · exact Or.inr ⟨q, by simp [va_up, e]; exact g1, g2⟩
section XX
variable {iv : Value} {tP : Nat → Int32} {tL : Nat → Option Nat} {tA tK tC tS tH : Nat → Int32} {tN tE tZ tf : Int32} {mP : Nat → Int32} {mf : Int32} {eP eT eF : Nat → Int32} {ef eg : Int32} {ew : Value} {rx gx wx : Nat → Int32} {hv : Nat → Value} {tp : Nat → Int32} {td : Int32} {rf : Nat → Int32} {rc ic : Nat → AC} {th : Nat → Int32} {pf : Int32} {nl : Nat → Option Nat} {ag lk co sh hs : Nat → Int32} {my ev se : Int32} {lc : Nat → AC} {r0 r3 : List AC} {Q : Option Value → AHp → Prop} {n : Nat} {kN : Nat → Nat} {ow : Nat → Int32}
theorem pX0_wouldTake {s t : Int32} {j k w : Nat} (hn : n ≤ 8) (hL : LkI lc r3 nl kN ow n) (hN : ∀ j, n ≤ j → nl j = none) (hP : ThI th) (hj : j < n) (hk : k < 6) (hw : w < 8) (hQ : ∀ (tP tA tK tC tS tH : Nat → Int32) (tL : Nat → Option Nat) (tN tE tZ : Int32) (eP eT eF : Nat → Int32) (ef eg : Int32) (ew : Value), Q (some (.int (b2i ((evR (fun i => if i = j then k else kN i) (upd ow j (nI w)) lk ag n th s).2.1 j == t)))) (r0, (xC (.ref 2) iv tP tL tA tK tC tS tH tN tE tZ tf mP mf eP eT eF ef eg ew rx gx wx hv tp td rf rc ic), (wC th pf nl ag lk co sh hs (nI n) ev se lc), r3 ++ [.inr (7 + k, [.int (nI j), .int (nI w)])])) : AMet mX0_wouldTake 10 1 2 [.ref 1, .int s, .int (nI j), .int t, .int (nI k), .int (nI w)] (r0, (xC (.ref 2) iv tP tL tA tK tC tS tH tN tE tZ tf mP mf eP eT eF ef eg ew rx gx wx hv tp td rf rc ic), (wC th pf nl ag lk co sh hs (nI n) ev se lc), r3) Q := by
  refine AMet.ofRch rfl rfl (Nat.le_of_ble_eq_true rfl) ?_
  have hL2 := LkI.new hj hk hw hL
  refine r_aload_n dX0_wouldTake_0 rfl ?_
  refine r_callV (as := []) okX0_tried bX0 rfl rfl q1305 dX0_wouldTake_1 (Nat.le_of_ble_eq_true rfl) rfl (Nat.le_of_ble_eq_true rfl) (Nat.le_of_ble_eq_true rfl) (Nat.le_of_ble_eq_true rfl) (pX0_tried hn hL hN hP ?_)
  refine r_astore dX0_wouldTake_4 (Nat.le_of_ble_eq_true rfl) ?_
  refine r_aload dX0_wouldTake_6 rfl ?_
  refine r_get bX1 1 (by decide) q163 dX0_wouldTake_8 rfl rfl ?_
  refine r_iload_n dX0_wouldTake_11 rfl ?_
  refine r_iload dX0_wouldTake_12 rfl ?_
  refine r_iload_n dX0_wouldTake_14 rfl ?_
  refine r_iload dX0_wouldTake_15 rfl ?_
  refine r_callS (as := [_, _, _]) okX0_made q1361 dX0_wouldTake_17 (Nat.le_of_ble_eq_true rfl) rfl (Nat.le_of_ble_eq_true rfl) (Nat.le_of_ble_eq_true rfl) (Nat.le_of_ble_eq_true rfl) (pX0_made hk ?_)
  show Rch _ _ _ _ _ _ (r0, (xC (.ref 2) iv (th) (nl) (ag) (lk) (co) (sh) (hs) (nI n) (ev) (se) tf mP mf eP eT eF ef eg ew rx gx wx hv tp td rf rc ic), (wC th pf nl ag lk co sh hs (nI n) ev se lc), r3 ++ [.inr (7 + k, [.int (nI j), .int (nI w)])])
  refine r_aast_looker (k := k) (fs := [.int (nI j), .int (nI w)]) dX0_wouldTake_20 rfl (aGet_push (h := (r0, (xC (.ref 2) iv (th) (nl) (ag) (lk) (co) (sh) (hs) (nI n) (ev) (se) tf mP mf eP eT eF ef eg ew rx gx wx hv tp td rf rc ic), (wC th pf nl ag lk co sh hs (nI n) ev se lc), r3))) hk (vp_in_nI (by omega) (by omega)) ?_
  rw [nI_clamp (by omega)]
  refine r_aload_n dX0_wouldTake_21 rfl ?_
  refine r_get bX0 4 (by decide) q250 dX0_wouldTake_22 rfl rfl ?_
  refine r_aload dX0_wouldTake_25 rfl ?_
  refine r_iload_n dX0_wouldTake_27 rfl ?_
  refine r_callV (as := [_, _]) okX3_of bX3 rfl rfl q547 dX0_wouldTake_28 (Nat.le_of_ble_eq_true rfl) rfl (Nat.le_of_ble_eq_true rfl) (Nat.le_of_ble_eq_true rfl) (Nat.le_of_ble_eq_true rfl) (pX3_of_t (tL := va_up nl j (some (8 * r3.length + 3))) (tP := th) (tK := lk) (tA := ag) hn hL2 hP (fun ef2 => ?_))
  refine r_get bX3 1 (by decide) q218 dX0_wouldTake_31 rfl rfl ?_
  refine r_iload_n dX0_wouldTake_34 rfl ?_
  refine r_ialdN dX0_wouldTake_35 rfl (by omega) (Nat.le_of_ble_eq_true rfl) ?_
  refine r_iload_n dX0_wouldTake_36 rfl ?_
  refine r_icmp_ne 44 dX0_wouldTake_37 (by decide) (fun c_37 => ?_) (fun c_37 => ?_)
  · refine r_iconst 0 dX0_wouldTake_44 (by decide) ?_
    exact r_zret (ty := .boolean) dX0_wouldTake_45 rfl (rfl) (Nat.le_of_ble_eq_true rfl) (Nat.le_of_ble_eq_true rfl) (by first | (have q1 : ((evR (fun i => if i = j then k else kN i) (upd ow j (nI w)) lk ag n th s).2.1 j == t) = true := beq_iff_eq.mpr c_37; exact qi (by rw [q1]; rfl) (hQ _ _ _ _ _ _ _ _ _ _ _ _ _ _ _ _)) | (have q1 : ((evR (fun i => if i = j then k else kN i) (upd ow j (nI w)) lk ag n th s).2.1 j == t) = false := beq_eq_false_iff_ne.mpr c_37; exact qi (by rw [q1]; rfl) (hQ _ _ _ _ _ _ _ _ _ _ _ _ _ _ _ _)))
  · refine r_iconst 1 dX0_wouldTake_40 (by decide) ?_
    refine r_goto 45 dX0_wouldTake_41 (by decide) ?_
    exact r_zret (ty := .boolean) dX0_wouldTake_45 rfl (rfl) (Nat.le_of_ble_eq_true rfl) (Nat.le_of_ble_eq_true rfl) (by first | (have q1 : ((evR (fun i => if i = j then k else kN i) (upd ow j (nI w)) lk ag n th s).2.1 j == t) = true := beq_iff_eq.mpr c_37; exact qi (by rw [q1]; rfl) (hQ _ _ _ _ _ _ _ _ _ _ _ _ _ _ _ _)) | (have q1 : ((evR (fun i => if i = j then k else kN i) (upd ow j (nI w)) lk ag n th s).2.1 j == t) = false := beq_eq_false_iff_ne.mpr c_37; exact qi (by rw [q1]; rfl) (hQ _ _ _ _ _ _ _ _ _ _ _ _ _ _ _ _)))
theorem pX0_kinds_bad {s l t w : Int32} (hn : n ≤ 8) (hb : (inB s 0 (allS n) && (inB l 0 (nI n - 1) && (inB t 0 4095 && (inB w 0 1 && hasB s l)))) = false) (hQ : Q (some (.int (-2))) (r0, (xC (.ref 2) iv tP tL tA tK tC tS tH tN tE tZ tf mP mf eP eT eF ef eg ew rx gx wx hv tp td (upd rf 2 (rf 2 + 1)) rc ic), (wC th pf nl ag lk co sh hs (nI n) ev se lc), r3)) : AMet mX0_kinds 11 8 16 [.ref 1, .int s, .int l, .int t, .int w] (r0, (xC (.ref 2) iv tP tL tA tK tC tS tH tN tE tZ tf mP mf eP eT eF ef eg ew rx gx wx hv tp td rf rc ic), (wC th pf nl ag lk co sh hs (nI n) ev se lc), r3) Q := by
  refine AMet.ofRch rfl rfl (Nat.le_of_ble_eq_true rfl) ?_
  refine r_aload_n dX0_kinds_0 rfl ?_
  refine r_iload_n dX0_kinds_1 rfl ?_
  refine r_callV (as := [_]) okX0_isSet bX0 rfl rfl q1219 dX0_kinds_2 (Nat.le_of_ble_eq_true rfl) rfl (Nat.le_of_ble_eq_true rfl) (Nat.le_of_ble_eq_true rfl) (Nat.le_of_ble_eq_true rfl) (pX0_isSet hn ?_)
  refine r_if_eq 42 dX0_kinds_5 (by decide) (fun c_5 => ?_) (fun c_5 => ?_)
  · refine r_iconst 0 dX0_kinds_42 (by decide) ?_
    refine r_istore dX0_kinds_43 (Nat.le_of_ble_eq_true rfl) ?_
    refine r_iload dX0_kinds_45 rfl ?_
    refine r_if_eq 60 dX0_kinds_47 (by decide) (fun c_47 => ?_) (fun c_47 => ?_)
    · refine r_aload_n dX0_kinds_60 rfl ?_
      refine r_bipush (-2) dX0_kinds_61 (by decide) ?_
      refine r_callV (as := [_]) okX0_no bX0 rfl rfl q381 dX0_kinds_63 (Nat.le_of_ble_eq_true rfl) rfl (Nat.le_of_ble_eq_true rfl) (Nat.le_of_ble_eq_true rfl) (Nat.le_of_ble_eq_true rfl) (pX0_no 2 (by decide) (by decide) ?_)
      exact r_iret dX0_kinds_66 rfl (Nat.le_of_ble_eq_true rfl) (Nat.le_of_ble_eq_true rfl) (hQ)
    · refine r_iload dX0_kinds_50 rfl ?_
      refine r_iconst 0 dX0_kinds_52 (by decide) ?_
      refine r_iconst 1 dX0_kinds_53 (by decide) ?_
      refine r_callS (as := [_, _, _]) okX0_isIn q378 dX0_kinds_54 (Nat.le_of_ble_eq_true rfl) rfl (Nat.le_of_ble_eq_true rfl) (Nat.le_of_ble_eq_true rfl) (Nat.le_of_ble_eq_true rfl) (pX0_isIn ?_)
      refine r_if_ne 67 dX0_kinds_57 (by decide) (fun c_57 => ?_) (fun c_57 => ?_)
      · first | exact absurd rfl c_47 | (exfalso; simp_all [b2i_0])
      · refine r_aload_n dX0_kinds_60 rfl ?_
        refine r_bipush (-2) dX0_kinds_61 (by decide) ?_
        refine r_callV (as := [_]) okX0_no bX0 rfl rfl q381 dX0_kinds_63 (Nat.le_of_ble_eq_true rfl) rfl (Nat.le_of_ble_eq_true rfl) (Nat.le_of_ble_eq_true rfl) (Nat.le_of_ble_eq_true rfl) (pX0_no 2 (by decide) (by decide) ?_)
        exact r_iret dX0_kinds_66 rfl (Nat.le_of_ble_eq_true rfl) (Nat.le_of_ble_eq_true rfl) (hQ)
  · refine r_aload_n dX0_kinds_8 rfl ?_
    refine r_get bX0 0 (by decide) q246 dX0_kinds_9 rfl rfl ?_
    refine r_iload_n dX0_kinds_12 rfl ?_
    refine r_callV (as := [_]) okX1_isLooker bX1 rfl rfl q519 dX0_kinds_13 (Nat.le_of_ble_eq_true rfl) rfl (Nat.le_of_ble_eq_true rfl) (Nat.le_of_ble_eq_true rfl) (Nat.le_of_ble_eq_true rfl) (pX1_isLooker rfl ?_)
    refine r_if_eq 42 dX0_kinds_16 (by decide) (fun c_16 => ?_) (fun c_16 => ?_)
    · refine r_iconst 0 dX0_kinds_42 (by decide) ?_
      refine r_istore dX0_kinds_43 (Nat.le_of_ble_eq_true rfl) ?_
      refine r_iload dX0_kinds_45 rfl ?_
      refine r_if_eq 60 dX0_kinds_47 (by decide) (fun c_47 => ?_) (fun c_47 => ?_)
      · refine r_aload_n dX0_kinds_60 rfl ?_
        refine r_bipush (-2) dX0_kinds_61 (by decide) ?_
        refine r_callV (as := [_]) okX0_no bX0 rfl rfl q381 dX0_kinds_63 (Nat.le_of_ble_eq_true rfl) rfl (Nat.le_of_ble_eq_true rfl) (Nat.le_of_ble_eq_true rfl) (Nat.le_of_ble_eq_true rfl) (pX0_no 2 (by decide) (by decide) ?_)
        exact r_iret dX0_kinds_66 rfl (Nat.le_of_ble_eq_true rfl) (Nat.le_of_ble_eq_true rfl) (hQ)
      · refine r_iload dX0_kinds_50 rfl ?_
        refine r_iconst 0 dX0_kinds_52 (by decide) ?_
        refine r_iconst 1 dX0_kinds_53 (by decide) ?_
        refine r_callS (as := [_, _, _]) okX0_isIn q378 dX0_kinds_54 (Nat.le_of_ble_eq_true rfl) rfl (Nat.le_of_ble_eq_true rfl) (Nat.le_of_ble_eq_true rfl) (Nat.le_of_ble_eq_true rfl) (pX0_isIn ?_)
        refine r_if_ne 67 dX0_kinds_57 (by decide) (fun c_57 => ?_) (fun c_57 => ?_)
        · first | exact absurd rfl c_47 | (exfalso; simp_all [b2i_0])
        · refine r_aload_n dX0_kinds_60 rfl ?_
          refine r_bipush (-2) dX0_kinds_61 (by decide) ?_
          refine r_callV (as := [_]) okX0_no bX0 rfl rfl q381 dX0_kinds_63 (Nat.le_of_ble_eq_true rfl) rfl (Nat.le_of_ble_eq_true rfl) (Nat.le_of_ble_eq_true rfl) (Nat.le_of_ble_eq_true rfl) (pX0_no 2 (by decide) (by decide) ?_)
          exact r_iret dX0_kinds_66 rfl (Nat.le_of_ble_eq_true rfl) (Nat.le_of_ble_eq_true rfl) (hQ)
    · refine r_iload_n dX0_kinds_19 rfl ?_
      refine r_iload_n dX0_kinds_20 rfl ?_
      refine r_callS (as := [_, _]) okX0_has q974 dX0_kinds_21 (Nat.le_of_ble_eq_true rfl) rfl (Nat.le_of_ble_eq_true rfl) (Nat.le_of_ble_eq_true rfl) (Nat.le_of_ble_eq_true rfl) (pX0_has ?_)
      refine r_if_eq 42 dX0_kinds_24 (by decide) (fun c_24 => ?_) (fun c_24 => ?_)
      · refine r_iconst 0 dX0_kinds_42 (by decide) ?_
        refine r_istore dX0_kinds_43 (Nat.le_of_ble_eq_true rfl) ?_
        refine r_iload dX0_kinds_45 rfl ?_
        refine r_if_eq 60 dX0_kinds_47 (by decide) (fun c_47 => ?_) (fun c_47 => ?_)
        · refine r_aload_n dX0_kinds_60 rfl ?_
          refine r_bipush (-2) dX0_kinds_61 (by decide) ?_
          refine r_callV (as := [_]) okX0_no bX0 rfl rfl q381 dX0_kinds_63 (Nat.le_of_ble_eq_true rfl) rfl (Nat.le_of_ble_eq_true rfl) (Nat.le_of_ble_eq_true rfl) (Nat.le_of_ble_eq_true rfl) (pX0_no 2 (by decide) (by decide) ?_)
          exact r_iret dX0_kinds_66 rfl (Nat.le_of_ble_eq_true rfl) (Nat.le_of_ble_eq_true rfl) (hQ)
        · refine r_iload dX0_kinds_50 rfl ?_
          refine r_iconst 0 dX0_kinds_52 (by decide) ?_
          refine r_iconst 1 dX0_kinds_53 (by decide) ?_
          refine r_callS (as := [_, _, _]) okX0_isIn q378 dX0_kinds_54 (Nat.le_of_ble_eq_true rfl) rfl (Nat.le_of_ble_eq_true rfl) (Nat.le_of_ble_eq_true rfl) (Nat.le_of_ble_eq_true rfl) (pX0_isIn ?_)
          refine r_if_ne 67 dX0_kinds_57 (by decide) (fun c_57 => ?_) (fun c_57 => ?_)
          · first | exact absurd rfl c_47 | (exfalso; simp_all [b2i_0])
          · refine r_aload_n dX0_kinds_60 rfl ?_
            refine r_bipush (-2) dX0_kinds_61 (by decide) ?_
            refine r_callV (as := [_]) okX0_no bX0 rfl rfl q381 dX0_kinds_63 (Nat.le_of_ble_eq_true rfl) rfl (Nat.le_of_ble_eq_true rfl) (Nat.le_of_ble_eq_true rfl) (Nat.le_of_ble_eq_true rfl) (pX0_no 2 (by decide) (by decide) ?_)
            exact r_iret dX0_kinds_66 rfl (Nat.le_of_ble_eq_true rfl) (Nat.le_of_ble_eq_true rfl) (hQ)
      · refine r_iload_n dX0_kinds_27 rfl ?_
        refine r_iconst 0 dX0_kinds_28 (by decide) ?_
        refine r_sipush 4095 dX0_kinds_29 (by decide) ?_
        refine r_callS (as := [_, _, _]) okX0_isIn q378 dX0_kinds_32 (Nat.le_of_ble_eq_true rfl) rfl (Nat.le_of_ble_eq_true rfl) (Nat.le_of_ble_eq_true rfl) (Nat.le_of_ble_eq_true rfl) (pX0_isIn ?_)
        refine r_if_eq 42 dX0_kinds_35 (by decide) (fun c_35 => ?_) (fun c_35 => ?_)
        · refine r_iconst 0 dX0_kinds_42 (by decide) ?_
          refine r_istore dX0_kinds_43 (Nat.le_of_ble_eq_true rfl) ?_
          refine r_iload dX0_kinds_45 rfl ?_
          refine r_if_eq 60 dX0_kinds_47 (by decide) (fun c_47 => ?_) (fun c_47 => ?_)
          · refine r_aload_n dX0_kinds_60 rfl ?_
            refine r_bipush (-2) dX0_kinds_61 (by decide) ?_
            refine r_callV (as := [_]) okX0_no bX0 rfl rfl q381 dX0_kinds_63 (Nat.le_of_ble_eq_true rfl) rfl (Nat.le_of_ble_eq_true rfl) (Nat.le_of_ble_eq_true rfl) (Nat.le_of_ble_eq_true rfl) (pX0_no 2 (by decide) (by decide) ?_)
            exact r_iret dX0_kinds_66 rfl (Nat.le_of_ble_eq_true rfl) (Nat.le_of_ble_eq_true rfl) (hQ)
          · refine r_iload dX0_kinds_50 rfl ?_
            refine r_iconst 0 dX0_kinds_52 (by decide) ?_
            refine r_iconst 1 dX0_kinds_53 (by decide) ?_
            refine r_callS (as := [_, _, _]) okX0_isIn q378 dX0_kinds_54 (Nat.le_of_ble_eq_true rfl) rfl (Nat.le_of_ble_eq_true rfl) (Nat.le_of_ble_eq_true rfl) (Nat.le_of_ble_eq_true rfl) (pX0_isIn ?_)
            refine r_if_ne 67 dX0_kinds_57 (by decide) (fun c_57 => ?_) (fun c_57 => ?_)
            · first | exact absurd rfl c_47 | (exfalso; simp_all [b2i_0])
            · refine r_aload_n dX0_kinds_60 rfl ?_
              refine r_bipush (-2) dX0_kinds_61 (by decide) ?_
              refine r_callV (as := [_]) okX0_no bX0 rfl rfl q381 dX0_kinds_63 (Nat.le_of_ble_eq_true rfl) rfl (Nat.le_of_ble_eq_true rfl) (Nat.le_of_ble_eq_true rfl) (Nat.le_of_ble_eq_true rfl) (pX0_no 2 (by decide) (by decide) ?_)
              exact r_iret dX0_kinds_66 rfl (Nat.le_of_ble_eq_true rfl) (Nat.le_of_ble_eq_true rfl) (hQ)
        · refine r_iconst 1 dX0_kinds_38 (by decide) ?_
          refine r_goto 43 dX0_kinds_39 (by decide) ?_
          refine r_istore dX0_kinds_43 (Nat.le_of_ble_eq_true rfl) ?_
          refine r_iload dX0_kinds_45 rfl ?_
          refine r_if_eq 60 dX0_kinds_47 (by decide) (fun c_47 => ?_) (fun c_47 => ?_)
          · refine r_aload_n dX0_kinds_60 rfl ?_
            refine r_bipush (-2) dX0_kinds_61 (by decide) ?_
            refine r_callV (as := [_]) okX0_no bX0 rfl rfl q381 dX0_kinds_63 (Nat.le_of_ble_eq_true rfl) rfl (Nat.le_of_ble_eq_true rfl) (Nat.le_of_ble_eq_true rfl) (Nat.le_of_ble_eq_true rfl) (pX0_no 2 (by decide) (by decide) ?_)
            exact r_iret dX0_kinds_66 rfl (Nat.le_of_ble_eq_true rfl) (Nat.le_of_ble_eq_true rfl) (hQ)
          · refine r_iload dX0_kinds_50 rfl ?_
            refine r_iconst 0 dX0_kinds_52 (by decide) ?_
            refine r_iconst 1 dX0_kinds_53 (by decide) ?_
            refine r_callS (as := [_, _, _]) okX0_isIn q378 dX0_kinds_54 (Nat.le_of_ble_eq_true rfl) rfl (Nat.le_of_ble_eq_true rfl) (Nat.le_of_ble_eq_true rfl) (Nat.le_of_ble_eq_true rfl) (pX0_isIn ?_)
            refine r_if_ne 67 dX0_kinds_57 (by decide) (fun c_57 => ?_) (fun c_57 => ?_)
            · first | exact absurd rfl c_47 | (exfalso; simp_all [b2i_0])
            · refine r_aload_n dX0_kinds_60 rfl ?_
              refine r_bipush (-2) dX0_kinds_61 (by decide) ?_
              refine r_callV (as := [_]) okX0_no bX0 rfl rfl q381 dX0_kinds_63 (Nat.le_of_ble_eq_true rfl) rfl (Nat.le_of_ble_eq_true rfl) (Nat.le_of_ble_eq_true rfl) (Nat.le_of_ble_eq_true rfl) (pX0_no 2 (by decide) (by decide) ?_)
              exact r_iret dX0_kinds_66 rfl (Nat.le_of_ble_eq_true rfl) (Nat.le_of_ble_eq_true rfl) (hQ)
theorem pX0_kinds_0 {s t : Int32} {j : Nat} (hn : n ≤ 8) (hL : LkI lc r3 nl kN ow n) (hN : ∀ j, n ≤ j → nl j = none) (hP : ThI th) (hj : j < n) (h1 : inB s 0 (allS n) = true) (h2 : inB t 0 4095 = true) (h3 : hasB s (nI j) = true) (hQ : ∀ d3 : List AC, ∀ (tP tA tK tC tS tH : Nat → Int32) (tL : Nat → Option Nat) (tN tE tZ : Int32) (eP eT eF : Nat → Int32) (ef eg : Int32) (ew : Value), Q (some (.int (kiF kN ow lk ag n th s j t 6))) (r0, (xC (.ref 2) iv tP tL tA tK tC tS tH tN tE tZ tf mP mf eP eT eF ef eg ew rx gx wx hv tp td rf rc ic), (wC th pf nl ag lk co sh hs (nI n) ev se lc), r3 ++ d3)) : AMet mX0_kinds 11 8 16 [.ref 1, .int s, .int (nI j), .int t, .int 0] (r0, (xC (.ref 2) iv tP tL tA tK tC tS tH tN tE tZ tf mP mf eP eT eF ef eg ew rx gx wx hv tp td rf rc ic), (wC th pf nl ag lk co sh hs (nI n) ev se lc), r3) Q := by
  refine AMet.ofRch rfl rfl (Nat.le_of_ble_eq_true rfl) ?_
  obtain ⟨k6, v, la, hv8, ev8, enl, -, -⟩ := hL.at hj
  have eo : upd ow j (nI v) = ow := by rw [← ev8]; exact upd_id ow j
  refine r_aload_n dX0_kinds_0 rfl ?_
  refine r_iload_n dX0_kinds_1 rfl ?_
  refine r_callV (as := [_]) okX0_isSet bX0 rfl rfl q1219 dX0_kinds_2 (Nat.le_of_ble_eq_true rfl) rfl (Nat.le_of_ble_eq_true rfl) (Nat.le_of_ble_eq_true rfl) (Nat.le_of_ble_eq_true rfl) (pX0_isSet hn ?_)
  refine r_if_eq 42 dX0_kinds_5 (by decide) (fun c_ => absurd c_ (b2i_n.mpr h1)) (fun _ => ?_)
  refine r_aload_n dX0_kinds_8 rfl ?_
  refine r_get bX0 0 (by decide) q246 dX0_kinds_9 rfl rfl ?_
  refine r_iload_n dX0_kinds_12 rfl ?_
  refine r_callV (as := [_]) okX1_isLooker bX1 rfl rfl q519 dX0_kinds_13 (Nat.le_of_ble_eq_true rfl) rfl (Nat.le_of_ble_eq_true rfl) (Nat.le_of_ble_eq_true rfl) (Nat.le_of_ble_eq_true rfl) (pX1_isLooker rfl ?_)
  refine r_if_eq 42 dX0_kinds_16 (by decide) (fun c_ => absurd c_ (b2i_n.mpr (inB_mI hj (by omega)))) (fun _ => ?_)
  refine r_iload_n dX0_kinds_19 rfl ?_
  refine r_iload_n dX0_kinds_20 rfl ?_
  refine r_callS (as := [_, _]) okX0_has q974 dX0_kinds_21 (Nat.le_of_ble_eq_true rfl) rfl (Nat.le_of_ble_eq_true rfl) (Nat.le_of_ble_eq_true rfl) (Nat.le_of_ble_eq_true rfl) (pX0_has ?_)
  refine r_if_eq 42 dX0_kinds_24 (by decide) (fun c_ => absurd c_ (b2i_n.mpr h3)) (fun _ => ?_)
  refine r_iload_n dX0_kinds_27 rfl ?_
  refine r_iconst 0 dX0_kinds_28 (by decide) ?_
  refine r_sipush 4095 dX0_kinds_29 (by decide) ?_
  refine r_callS (as := [_, _, _]) okX0_isIn q378 dX0_kinds_32 (Nat.le_of_ble_eq_true rfl) rfl (Nat.le_of_ble_eq_true rfl) (Nat.le_of_ble_eq_true rfl) (Nat.le_of_ble_eq_true rfl) (pX0_isIn ?_)
  refine r_if_eq 42 dX0_kinds_35 (by decide) (fun c_ => absurd c_ (b2i_n.mpr h2)) (fun _ => ?_)
  refine r_iconst 1 dX0_kinds_38 (by decide) ?_
  refine r_goto 43 dX0_kinds_39 (by decide) ?_
  refine r_istore dX0_kinds_43 (Nat.le_of_ble_eq_true rfl) ?_
  refine r_iload dX0_kinds_45 rfl ?_
  refine r_if_eq 60 dX0_kinds_47 (by decide) (fun c_ => absurd c_ (by decide)) (fun _ => ?_)
  refine r_iload dX0_kinds_50 rfl ?_
  refine r_iconst 0 dX0_kinds_52 (by decide) ?_
  refine r_iconst 1 dX0_kinds_53 (by decide) ?_
  refine r_callS (as := [_, _, _]) okX0_isIn q378 dX0_kinds_54 (Nat.le_of_ble_eq_true rfl) rfl (Nat.le_of_ble_eq_true rfl) (Nat.le_of_ble_eq_true rfl) (Nat.le_of_ble_eq_true rfl) (pX0_isIn ?_)
  refine r_if_ne 67 dX0_kinds_57 (by decide) (fun _ => ?_) (fun c_ => absurd c_ (by decide))
  refine r_aload_n dX0_kinds_67 rfl ?_
  refine r_get bX0 0 (by decide) q246 dX0_kinds_68 rfl rfl ?_
  refine r_get bX1 1 (by decide) q163 dX0_kinds_71 rfl rfl ?_
  refine r_iload_n dX0_kinds_74 rfl ?_
  refine r_aald_looker dX0_kinds_75 rfl (vp_in_nI (by omega) (by omega)) ?_
  rw [nI_clamp (by omega), enl]
  refine r_astore dX0_kinds_76 (Nat.le_of_ble_eq_true rfl) ?_
  refine r_iconst 0 dX0_kinds_78 (by decide) ?_
  refine r_istore dX0_kinds_79 (Nat.le_of_ble_eq_true rfl) ?_
  refine r_iconst 0 dX0_kinds_81 (by decide) ?_
  refine r_istore dX0_kinds_82 (Nat.le_of_ble_eq_true rfl) ?_
  rw [show (r0, (xC (.ref 2) iv tP tL tA tK tC tS tH tN tE tZ tf mP mf eP eT eF ef eg ew rx gx wx hv tp td rf rc ic), (wC th pf nl ag lk co sh hs (nI n) ev se lc), r3) = (r0, (xC (.ref 2) iv tP tL tA tK tC tS tH tN tE tZ tf mP mf eP eT eF ef eg ew rx gx wx hv tp td rf rc ic), (wC th pf nl ag lk co sh hs (nI n) ev se lc), r3 ++ []) by rw [List.append_nil]]
  refine loopUp (N := 6) (P := fun k => ∀ (d3 : List AC) (y : Option Value), ∀ (tP tA tK tC tS tH : Nat → Int32) (tL : Nat → Option Nat) (tN tE tZ : Int32) (eP eT eF : Nat → Int32) (ef eg : Int32) (ew : Value), Rch (mX0_kinds, 11, 8, 16, oQ Q) k (2 * k) 84 [some (.ref 1), some (.int s), some (.int (nI j)), some (.int t), some (.int 0), some (.int 1), some (.ref la), some (.int (kiF kN ow lk ag n th s j t k)), some (.int (nI k)), y] [] (r0, (xC (.ref 2) iv tP tL tA tK tC tS tH tN tE tZ tf mP mf eP eT eF ef eg ew rx gx wx hv tp td rf rc ic), (wC th pf nl ag lk co sh hs (nI n) ev se lc), r3 ++ d3)) ?_ ?_ [] none _ _ _ _ _ _ _ _ _ _ _ _ _ _ _ _
  · intro d3 y tP tA tK tC tS tH tL tN tE tZ eP eT eF ef eg ew
    refine r_iload dX0_kinds_84 rfl ?_
    refine r_iload dX0_kinds_86 rfl ?_
    refine r_if_ne 96 dX0_kinds_88 (by decide) (fun c_ => absurd (rfl) c_) (fun _ => ?_)
    refine r_bipush 6 dX0_kinds_91 (by decide) ?_
    refine r_goto 98 dX0_kinds_93 (by decide) ?_
    refine r_icmp_ge 164 dX0_kinds_98 (by decide) (fun _ => ?_) (fun c_ => absurd (geT 6) c_)
    refine r_iload dX0_kinds_164 rfl ?_
    exact r_iret dX0_kinds_166 rfl (Nat.le_of_ble_eq_true rfl) (Nat.le_of_ble_eq_true rfl) (hQ d3 _ _ _ _ _ _ _ _ _ _ _ _ _ _ _ _)
  · intro k hk ih d3 y tP tA tK tC tS tH tL tN tE tZ eP eT eF ef eg ew
    have hL3 := hL.push d3
    obtain ⟨-, v2, la2, hv2, ev2, enl2, -, hcell2⟩ := hL3.at hj
    have e3 : nI v2 = nI v := ev2.symm.trans ev8
    simp only [e3] at hcell2
    cases enl2.symm.trans enl
    refine r_iload dX0_kinds_84 rfl ?_
    refine r_iload dX0_kinds_86 rfl ?_
    refine r_if_ne 96 dX0_kinds_88 (by decide) (fun c_ => absurd (rfl) c_) (fun _ => ?_)
    refine r_bipush 6 dX0_kinds_91 (by decide) ?_
    refine r_goto 98 dX0_kinds_93 (by decide) ?_
    refine r_icmp_ge 164 dX0_kinds_98 (by decide) (fun c_ => absurd c_ (geF (N := 6) hk (by decide))) (fun _ => ?_)
    refine r_aload_n dX0_kinds_101 rfl ?_
    refine r_iload_n dX0_kinds_102 rfl ?_
    refine r_iload_n dX0_kinds_103 rfl ?_
    refine r_iload_n dX0_kinds_104 rfl ?_
    refine r_iload dX0_kinds_105 rfl ?_
    refine r_if_ne 115 dX0_kinds_107 (by decide) (fun c_ => absurd (rfl) c_) (fun _ => ?_)
    refine r_iload dX0_kinds_110 rfl ?_
    refine r_goto 120 dX0_kinds_112 (by decide) ?_
    refine r_iload dX0_kinds_120 rfl ?_
    refine r_if_ne 133 dX0_kinds_122 (by decide) (fun c_ => absurd (rfl) c_) (fun _ => ?_)
    refine r_aload dX0_kinds_125 rfl ?_
    refine r_lkA q680 dX0_kinds_127 k6 (hcell2 _ _ _ _ _ _ _ _ _ _ _ _ _) ?_
    refine r_goto 135 dX0_kinds_130 (by decide) ?_
    refine r_callV (as := [_, _, _, _, _]) okX0_wouldTake bX0 rfl rfl q1357 dX0_kinds_135 (Nat.le_of_ble_eq_true rfl) rfl (Nat.le_of_ble_eq_true rfl) (show k + 1 ≤ 8 by omega) (show 2 * k + 2 ≤ 16 by omega) (pX0_wouldTake (k := k) (w := v) hn hL3 hN hP hj hk hv8 (fun tP tA tK tC tS tH tL tN tE tZ eP eT eF ef eg ew => ?_))
    rw [eo]
    refine r_istore dX0_kinds_138 (Nat.le_of_ble_eq_true rfl) ?_
    refine r_iload dX0_kinds_140 rfl ?_
    refine r_iload dX0_kinds_142 rfl ?_
    refine r_if_eq 154 dX0_kinds_144 (by decide) (fun c_144 => ?_) (fun c_144 => ?_)
    · refine r_iconst 0 dX0_kinds_154 (by decide) ?_
      refine r_ior dX0_kinds_155 ?_
      refine r_istore dX0_kinds_156 (Nat.le_of_ble_eq_true rfl) ?_
      refine r_iincV dX0_kinds_158 rfl (Nat.le_of_ble_eq_true rfl) (incN _) ?_
      refine r_goto 84 dX0_kinds_161 (by decide) ?_
      rw [List.append_assoc]
      first | (have q1 := b2i_0.mp c_144; simp only [kiF, bitsI, q1, Bool.false_eq_true, if_false] at ih; exact ih _ _ _ _ _ _ _ _ _ _ _ _ _ _ _ _ _ _) | (have q1 := b2i_n.mp c_144; simp only [kiF, bitsI, q1, if_true] at ih; exact ih _ _ _ _ _ _ _ _ _ _ _ _ _ _ _ _ _ _)
    · refine r_iconst 1 dX0_kinds_147 (by decide) ?_
      refine r_iload dX0_kinds_148 rfl ?_
      refine r_ishl dX0_kinds_150 ?_
      refine r_goto 155 dX0_kinds_151 (by decide) ?_
      refine r_ior dX0_kinds_155 ?_
      refine r_istore dX0_kinds_156 (Nat.le_of_ble_eq_true rfl) ?_
      refine r_iincV dX0_kinds_158 rfl (Nat.le_of_ble_eq_true rfl) (incN _) ?_
      refine r_goto 84 dX0_kinds_161 (by decide) ?_
      rw [List.append_assoc]
      first | (have q1 := b2i_0.mp c_144; simp only [kiF, bitsI, q1, Bool.false_eq_true, if_false] at ih; exact ih _ _ _ _ _ _ _ _ _ _ _ _ _ _ _ _ _ _) | (have q1 := b2i_n.mp c_144; simp only [kiF, bitsI, q1, if_true] at ih; exact ih _ _ _ _ _ _ _ _ _ _ _ _ _ _ _ _ _ _)
theorem pX0_kinds_1 {s t : Int32} {j : Nat} (hn : n ≤ 8) (hL : LkI lc r3 nl kN ow n) (hN : ∀ j, n ≤ j → nl j = none) (hP : ThI th) (hj : j < n) (h1 : inB s 0 (allS n) = true) (h2 : inB t 0 4095 = true) (h3 : hasB s (nI j) = true) (hQ : ∀ d3 : List AC, ∀ (tP tA tK tC tS tH : Nat → Int32) (tL : Nat → Option Nat) (tN tE tZ : Int32) (eP eT eF : Nat → Int32) (ef eg : Int32) (ew : Value), Q (some (.int (koF kN ow lk ag n th s j t 8))) (r0, (xC (.ref 2) iv tP tL tA tK tC tS tH tN tE tZ tf mP mf eP eT eF ef eg ew rx gx wx hv tp td rf rc ic), (wC th pf nl ag lk co sh hs (nI n) ev se lc), r3 ++ d3)) : AMet mX0_kinds 11 8 16 [.ref 1, .int s, .int (nI j), .int t, .int 1] (r0, (xC (.ref 2) iv tP tL tA tK tC tS tH tN tE tZ tf mP mf eP eT eF ef eg ew rx gx wx hv tp td rf rc ic), (wC th pf nl ag lk co sh hs (nI n) ev se lc), r3) Q := by
  refine AMet.ofRch rfl rfl (Nat.le_of_ble_eq_true rfl) ?_
  obtain ⟨k6, v, la, hv8, ev8, enl, -, -⟩ := hL.at hj
  have eo : (fun i => if i = j then kN j else kN i) = kN := by
    funext i
    split
    · rename_i e; rw [e]
    · rfl
  refine r_aload_n dX0_kinds_0 rfl ?_
  refine r_iload_n dX0_kinds_1 rfl ?_
  refine r_callV (as := [_]) okX0_isSet bX0 rfl rfl q1219 dX0_kinds_2 (Nat.le_of_ble_eq_true rfl) rfl (Nat.le_of_ble_eq_true rfl) (Nat.le_of_ble_eq_true rfl) (Nat.le_of_ble_eq_true rfl) (pX0_isSet hn ?_)
  refine r_if_eq 42 dX0_kinds_5 (by decide) (fun c_ => absurd c_ (b2i_n.mpr h1)) (fun _ => ?_)
  refine r_aload_n dX0_kinds_8 rfl ?_
  refine r_get bX0 0 (by decide) q246 dX0_kinds_9 rfl rfl ?_
  refine r_iload_n dX0_kinds_12 rfl ?_
  refine r_callV (as := [_]) okX1_isLooker bX1 rfl rfl q519 dX0_kinds_13 (Nat.le_of_ble_eq_true rfl) rfl (Nat.le_of_ble_eq_true rfl) (Nat.le_of_ble_eq_true rfl) (Nat.le_of_ble_eq_true rfl) (pX1_isLooker rfl ?_)
  refine r_if_eq 42 dX0_kinds_16 (by decide) (fun c_ => absurd c_ (b2i_n.mpr (inB_mI hj (by omega)))) (fun _ => ?_)
  refine r_iload_n dX0_kinds_19 rfl ?_
  refine r_iload_n dX0_kinds_20 rfl ?_
  refine r_callS (as := [_, _]) okX0_has q974 dX0_kinds_21 (Nat.le_of_ble_eq_true rfl) rfl (Nat.le_of_ble_eq_true rfl) (Nat.le_of_ble_eq_true rfl) (Nat.le_of_ble_eq_true rfl) (pX0_has ?_)
  refine r_if_eq 42 dX0_kinds_24 (by decide) (fun c_ => absurd c_ (b2i_n.mpr h3)) (fun _ => ?_)
  refine r_iload_n dX0_kinds_27 rfl ?_
  refine r_iconst 0 dX0_kinds_28 (by decide) ?_
  refine r_sipush 4095 dX0_kinds_29 (by decide) ?_
  refine r_callS (as := [_, _, _]) okX0_isIn q378 dX0_kinds_32 (Nat.le_of_ble_eq_true rfl) rfl (Nat.le_of_ble_eq_true rfl) (Nat.le_of_ble_eq_true rfl) (Nat.le_of_ble_eq_true rfl) (pX0_isIn ?_)
  refine r_if_eq 42 dX0_kinds_35 (by decide) (fun c_ => absurd c_ (b2i_n.mpr h2)) (fun _ => ?_)
  refine r_iconst 1 dX0_kinds_38 (by decide) ?_
  refine r_goto 43 dX0_kinds_39 (by decide) ?_
  refine r_istore dX0_kinds_43 (Nat.le_of_ble_eq_true rfl) ?_
  refine r_iload dX0_kinds_45 rfl ?_
  refine r_if_eq 60 dX0_kinds_47 (by decide) (fun c_ => absurd c_ (by decide)) (fun _ => ?_)
  refine r_iload dX0_kinds_50 rfl ?_
  refine r_iconst 0 dX0_kinds_52 (by decide) ?_
  refine r_iconst 1 dX0_kinds_53 (by decide) ?_
  refine r_callS (as := [_, _, _]) okX0_isIn q378 dX0_kinds_54 (Nat.le_of_ble_eq_true rfl) rfl (Nat.le_of_ble_eq_true rfl) (Nat.le_of_ble_eq_true rfl) (Nat.le_of_ble_eq_true rfl) (pX0_isIn ?_)
  refine r_if_ne 67 dX0_kinds_57 (by decide) (fun _ => ?_) (fun c_ => absurd c_ (by decide))
  refine r_aload_n dX0_kinds_67 rfl ?_
  refine r_get bX0 0 (by decide) q246 dX0_kinds_68 rfl rfl ?_
  refine r_get bX1 1 (by decide) q163 dX0_kinds_71 rfl rfl ?_
  refine r_iload_n dX0_kinds_74 rfl ?_
  refine r_aald_looker dX0_kinds_75 rfl (vp_in_nI (by omega) (by omega)) ?_
  rw [nI_clamp (by omega), enl]
  refine r_astore dX0_kinds_76 (Nat.le_of_ble_eq_true rfl) ?_
  refine r_iconst 0 dX0_kinds_78 (by decide) ?_
  refine r_istore dX0_kinds_79 (Nat.le_of_ble_eq_true rfl) ?_
  refine r_iconst 0 dX0_kinds_81 (by decide) ?_
  refine r_istore dX0_kinds_82 (Nat.le_of_ble_eq_true rfl) ?_
  rw [show (r0, (xC (.ref 2) iv tP tL tA tK tC tS tH tN tE tZ tf mP mf eP eT eF ef eg ew rx gx wx hv tp td rf rc ic), (wC th pf nl ag lk co sh hs (nI n) ev se lc), r3) = (r0, (xC (.ref 2) iv tP tL tA tK tC tS tH tN tE tZ tf mP mf eP eT eF ef eg ew rx gx wx hv tp td rf rc ic), (wC th pf nl ag lk co sh hs (nI n) ev se lc), r3 ++ []) by rw [List.append_nil]]
  refine loopUp (N := 8) (P := fun k => ∀ (d3 : List AC) (y : Option Value), ∀ (tP tA tK tC tS tH : Nat → Int32) (tL : Nat → Option Nat) (tN tE tZ : Int32) (eP eT eF : Nat → Int32) (ef eg : Int32) (ew : Value), Rch (mX0_kinds, 11, 8, 16, oQ Q) k (2 * k) 84 [some (.ref 1), some (.int s), some (.int (nI j)), some (.int t), some (.int 1), some (.int 1), some (.ref la), some (.int (koF kN ow lk ag n th s j t k)), some (.int (nI k)), y] [] (r0, (xC (.ref 2) iv tP tL tA tK tC tS tH tN tE tZ tf mP mf eP eT eF ef eg ew rx gx wx hv tp td rf rc ic), (wC th pf nl ag lk co sh hs (nI n) ev se lc), r3 ++ d3)) ?_ ?_ [] none _ _ _ _ _ _ _ _ _ _ _ _ _ _ _ _
  · intro d3 y tP tA tK tC tS tH tL tN tE tZ eP eT eF ef eg ew
    refine r_iload dX0_kinds_84 rfl ?_
    refine r_iload dX0_kinds_86 rfl ?_
    refine r_if_ne 96 dX0_kinds_88 (by decide) (fun _ => ?_) (fun c_ => absurd c_ (by decide))
    refine r_bipush 8 dX0_kinds_96 (by decide) ?_
    refine r_icmp_ge 164 dX0_kinds_98 (by decide) (fun _ => ?_) (fun c_ => absurd (geT 8) c_)
    refine r_iload dX0_kinds_164 rfl ?_
    exact r_iret dX0_kinds_166 rfl (Nat.le_of_ble_eq_true rfl) (Nat.le_of_ble_eq_true rfl) (hQ d3 _ _ _ _ _ _ _ _ _ _ _ _ _ _ _ _)
  · intro k hk ih d3 y tP tA tK tC tS tH tL tN tE tZ eP eT eF ef eg ew
    have hL3 := hL.push d3
    obtain ⟨-, v2, la2, hv2, ev2, enl2, -, hcell2⟩ := hL3.at hj
    have e3 : nI v2 = nI v := ev2.symm.trans ev8
    simp only [e3] at hcell2
    cases enl2.symm.trans enl
    refine r_iload dX0_kinds_84 rfl ?_
    refine r_iload dX0_kinds_86 rfl ?_
    refine r_if_ne 96 dX0_kinds_88 (by decide) (fun _ => ?_) (fun c_ => absurd c_ (by decide))
    refine r_bipush 8 dX0_kinds_96 (by decide) ?_
    refine r_icmp_ge 164 dX0_kinds_98 (by decide) (fun c_ => absurd c_ (geF (N := 8) hk (by decide))) (fun _ => ?_)
    refine r_aload_n dX0_kinds_101 rfl ?_
    refine r_iload_n dX0_kinds_102 rfl ?_
    refine r_iload_n dX0_kinds_103 rfl ?_
    refine r_iload_n dX0_kinds_104 rfl ?_
    refine r_iload dX0_kinds_105 rfl ?_
    refine r_if_ne 115 dX0_kinds_107 (by decide) (fun _ => ?_) (fun c_ => absurd c_ (by decide))
    refine r_aload dX0_kinds_115 rfl ?_
    refine r_kind k6 (hcell2 _ _ _ _ _ _ _ _ _ _ _ _ _) q1195 dX0_kinds_117 (Nat.le_of_ble_eq_true rfl) (Nat.le_of_ble_eq_true rfl) (show k ≤ 8 by omega) (show 2 * k ≤ 16 by omega) ?_
    refine r_iload dX0_kinds_120 rfl ?_
    refine r_if_ne 133 dX0_kinds_122 (by decide) (fun _ => ?_) (fun c_ => absurd c_ (by decide))
    refine r_iload dX0_kinds_133 rfl ?_
    refine r_callV (as := [_, _, _, _, _]) okX0_wouldTake bX0 rfl rfl q1357 dX0_kinds_135 (Nat.le_of_ble_eq_true rfl) rfl (Nat.le_of_ble_eq_true rfl) (show k + 1 ≤ 8 by omega) (show 2 * k + 2 ≤ 16 by omega) (pX0_wouldTake (k := kN j) (w := k) hn hL3 hN hP hj k6 hk (fun tP tA tK tC tS tH tL tN tE tZ eP eT eF ef eg ew => ?_))
    rw [eo]
    refine r_istore dX0_kinds_138 (Nat.le_of_ble_eq_true rfl) ?_
    refine r_iload dX0_kinds_140 rfl ?_
    refine r_iload dX0_kinds_142 rfl ?_
    refine r_if_eq 154 dX0_kinds_144 (by decide) (fun c_144 => ?_) (fun c_144 => ?_)
    · refine r_iconst 0 dX0_kinds_154 (by decide) ?_
      refine r_ior dX0_kinds_155 ?_
      refine r_istore dX0_kinds_156 (Nat.le_of_ble_eq_true rfl) ?_
      refine r_iincV dX0_kinds_158 rfl (Nat.le_of_ble_eq_true rfl) (incN _) ?_
      refine r_goto 84 dX0_kinds_161 (by decide) ?_
      rw [List.append_assoc]
      first | (have q1 := b2i_0.mp c_144; simp only [koF, bitsI, q1, Bool.false_eq_true, if_false] at ih; exact ih _ _ _ _ _ _ _ _ _ _ _ _ _ _ _ _ _ _) | (have q1 := b2i_n.mp c_144; simp only [koF, bitsI, q1, if_true] at ih; exact ih _ _ _ _ _ _ _ _ _ _ _ _ _ _ _ _ _ _)
    · refine r_iconst 1 dX0_kinds_147 (by decide) ?_
      refine r_iload dX0_kinds_148 rfl ?_
      refine r_ishl dX0_kinds_150 ?_
      refine r_goto 155 dX0_kinds_151 (by decide) ?_
      refine r_ior dX0_kinds_155 ?_
      refine r_istore dX0_kinds_156 (Nat.le_of_ble_eq_true rfl) ?_
      refine r_iincV dX0_kinds_158 rfl (Nat.le_of_ble_eq_true rfl) (incN _) ?_
      refine r_goto 84 dX0_kinds_161 (by decide) ?_
      rw [List.append_assoc]
      first | (have q1 := b2i_0.mp c_144; simp only [koF, bitsI, q1, Bool.false_eq_true, if_false] at ih; exact ih _ _ _ _ _ _ _ _ _ _ _ _ _ _ _ _ _ _) | (have q1 := b2i_n.mp c_144; simp only [koF, bitsI, q1, if_true] at ih; exact ih _ _ _ _ _ _ _ _ _ _ _ _ _ _ _ _ _ _)
theorem sumI_8 {hs : Nat → Int32} : ∀ n, sumI hs (8 * (n + 1)) = sumI hs (8 * n) + rkF.suI (fun s => hs (8 * n + s)) 8 := by
  intro n
  have key : ∀ k, sumI hs (8 * n + k) = sumI hs (8 * n) + rkF.suI (fun s => hs (8 * n + s)) k := by
    intro k
    induction k with
    | zero => exact (Int32.add_zero _).symm
    | succ k ih =>
      rw [← Nat.add_assoc]
      simp only [sumI, rkF.suI]
      rw [ih, Int32.add_assoc]
  exact key 8
theorem pX0_allThings (hn : n ≤ 8) (hQ : Q (some (.int (sumI hs (8 * n)))) (r0, (xC (.ref 2) iv tP tL tA tK tC tS tH tN tE tZ tf mP mf eP eT eF ef eg ew rx gx wx hv tp td rf rc ic), (wC th pf nl ag lk co sh hs (nI n) ev se lc), r3)) : AMet mX0_allThings 2 0 0 [.ref 1] (r0, (xC (.ref 2) iv tP tL tA tK tC tS tH tN tE tZ tf mP mf eP eT eF ef eg ew rx gx wx hv tp td rf rc ic), (wC th pf nl ag lk co sh hs (nI n) ev se lc), r3) Q := by
  refine AMet.ofRch rfl rfl (Nat.le_of_ble_eq_true rfl) ?_
  refine r_iconst 0 dX0_allThings_0 (by decide) ?_
  refine r_istore_n dX0_allThings_1 (Nat.le_of_ble_eq_true rfl) ?_
  refine r_iconst 0 dX0_allThings_2 (by decide) ?_
  refine r_istore_n dX0_allThings_3 (Nat.le_of_ble_eq_true rfl) ?_
  refine loopUp (N := n) (P := fun k => Rch (mX0_allThings, 2, 0, 0, oQ Q) 0 0 4 [some (.ref 1), some (.int (sumI hs (8 * k))), some (.int (nI k))] [] (r0, (xC (.ref 2) iv tP tL tA tK tC tS tH tN tE tZ tf mP mf eP eT eF ef eg ew rx gx wx hv tp td rf rc ic), (wC th pf nl ag lk co sh hs (nI n) ev se lc), r3)) ?_ ?_
  · refine r_iload_n dX0_allThings_4 rfl ?_
    refine r_aload_n dX0_allThings_5 rfl ?_
    refine r_get bX0 0 (by decide) q246 dX0_allThings_6 rfl rfl ?_
    refine r_get bX1 7 (by decide) q179 dX0_allThings_9 rfl rfl ?_
    refine r_icmp_ge 32 dX0_allThings_12 (by decide) (fun _ => ?_) (fun c_ => absurd (Int32.le_refl _) c_)
    refine r_iload_n dX0_allThings_32 rfl ?_
    exact r_iret dX0_allThings_33 rfl (Nat.le_of_ble_eq_true rfl) (Nat.le_of_ble_eq_true rfl) (hQ)
  · intro k hk ih
    rw [sumI_8] at ih
    refine r_iload_n dX0_allThings_4 rfl ?_
    refine r_aload_n dX0_allThings_5 rfl ?_
    refine r_get bX0 0 (by decide) q246 dX0_allThings_6 rfl rfl ?_
    refine r_get bX1 7 (by decide) q179 dX0_allThings_9 rfl rfl ?_
    refine r_icmp_ge 32 dX0_allThings_12 (by decide) (fun c_ => absurd c_ (geF hk (by omega))) (fun _ => ?_)
    refine r_iload_n dX0_allThings_15 rfl ?_
    refine r_aload_n dX0_allThings_16 rfl ?_
    refine r_get bX0 0 (by decide) q246 dX0_allThings_17 rfl rfl ?_
    refine r_iload_n dX0_allThings_20 rfl ?_
    refine r_callV (as := [_]) okX1_things bX1 rfl rfl q1409 dX0_allThings_21 (Nat.le_of_ble_eq_true rfl) rfl (Nat.le_of_ble_eq_true rfl) (Nat.le_of_ble_eq_true rfl) (Nat.le_of_ble_eq_true rfl) (pX1_things (by omega) rfl rfl ?_)
    refine r_iadd dX0_allThings_24 ?_
    refine r_istore_n dX0_allThings_25 (Nat.le_of_ble_eq_true rfl) ?_
    refine r_iincV dX0_allThings_26 rfl (Nat.le_of_ble_eq_true rfl) (incN _) ?_
    refine r_goto 4 dX0_allThings_29 (by decide) ?_
    exact ih
theorem pX0_shining (hn : n ≤ 8) (hQ : Q (some (.int (nI (cntI (fun p => sh p != -1) n)))) (r0, (xC (.ref 2) iv tP tL tA tK tC tS tH tN tE tZ tf mP mf eP eT eF ef eg ew rx gx wx hv tp td rf rc ic), (wC th pf nl ag lk co sh hs (nI n) ev se lc), r3)) : AMet mX0_shining 1 0 0 [.ref 1] (r0, (xC (.ref 2) iv tP tL tA tK tC tS tH tN tE tZ tf mP mf eP eT eF ef eg ew rx gx wx hv tp td rf rc ic), (wC th pf nl ag lk co sh hs (nI n) ev se lc), r3) Q := by
  refine AMet.ofRch rfl rfl (Nat.le_of_ble_eq_true rfl) ?_
  refine r_iconst 0 dX0_shining_0 (by decide) ?_
  refine r_istore_n dX0_shining_1 (Nat.le_of_ble_eq_true rfl) ?_
  refine r_iconst 0 dX0_shining_2 (by decide) ?_
  refine r_istore_n dX0_shining_3 (Nat.le_of_ble_eq_true rfl) ?_
  refine loopUp (N := n) (P := fun k => Rch (mX0_shining, 1, 0, 0, oQ Q) 0 0 4 [some (.ref 1), some (.int (nI (cntI (fun p => sh p != -1) k))), some (.int (nI k))] [] (r0, (xC (.ref 2) iv tP tL tA tK tC tS tH tN tE tZ tf mP mf eP eT eF ef eg ew rx gx wx hv tp td rf rc ic), (wC th pf nl ag lk co sh hs (nI n) ev se lc), r3)) ?_ ?_
  · refine r_iload_n dX0_shining_4 rfl ?_
    refine r_aload_n dX0_shining_5 rfl ?_
    refine r_get bX0 0 (by decide) q246 dX0_shining_6 rfl rfl ?_
    refine r_get bX1 7 (by decide) q179 dX0_shining_9 rfl rfl ?_
    refine r_icmp_ge 42 dX0_shining_12 (by decide) (fun _ => ?_) (fun c_ => absurd (Int32.le_refl _) c_)
    refine r_iload_n dX0_shining_42 rfl ?_
    exact r_iret dX0_shining_43 rfl (Nat.le_of_ble_eq_true rfl) (Nat.le_of_ble_eq_true rfl) (hQ)
  · intro k hk ih
    refine r_iload_n dX0_shining_4 rfl ?_
    refine r_aload_n dX0_shining_5 rfl ?_
    refine r_get bX0 0 (by decide) q246 dX0_shining_6 rfl rfl ?_
    refine r_get bX1 7 (by decide) q179 dX0_shining_9 rfl rfl ?_
    refine r_icmp_ge 42 dX0_shining_12 (by decide) (fun c_ => absurd c_ (geF hk (by omega))) (fun _ => ?_)
    refine r_iload_n dX0_shining_15 rfl ?_
    refine r_aload_n dX0_shining_16 rfl ?_
    refine r_get bX0 0 (by decide) q246 dX0_shining_17 rfl rfl ?_
    refine r_get bX1 5 (by decide) q174 dX0_shining_20 rfl rfl ?_
    refine r_iload_n dX0_shining_23 rfl ?_
    refine r_ialdN dX0_shining_24 rfl (by omega) (Nat.le_of_ble_eq_true rfl) ?_
    refine r_iconst (-1) dX0_shining_25 (by decide) ?_
    refine r_icmp_eq 33 dX0_shining_26 (by decide) (fun c_26 => ?_) (fun c_26 => ?_)
    · refine r_iconst 0 dX0_shining_33 (by decide) ?_
      refine r_iadd dX0_shining_34 ?_
      first | rw [nI_1] | rw [Int32.add_zero]
      refine r_istore_n dX0_shining_35 (Nat.le_of_ble_eq_true rfl) ?_
      refine r_iincV dX0_shining_36 rfl (Nat.le_of_ble_eq_true rfl) (incN _) ?_
      refine r_goto 4 dX0_shining_39 (by decide) ?_
      first | (have q1 : (sh k != -1) = true := (by simpa using c_26); simp only [cntI, q1, if_true] at ih; exact ih) | (have q1 : (sh k != -1) = false := (by simpa using c_26); simp only [cntI, q1, Bool.false_eq_true, if_false, Nat.add_zero] at ih; exact ih)
    · refine r_iconst 1 dX0_shining_29 (by decide) ?_
      refine r_goto 34 dX0_shining_30 (by decide) ?_
      refine r_iadd dX0_shining_34 ?_
      first | rw [nI_1] | rw [Int32.add_zero]
      refine r_istore_n dX0_shining_35 (Nat.le_of_ble_eq_true rfl) ?_
      refine r_iincV dX0_shining_36 rfl (Nat.le_of_ble_eq_true rfl) (incN _) ?_
      refine r_goto 4 dX0_shining_39 (by decide) ?_
      first | (have q1 : (sh k != -1) = true := (by simpa using c_26); simp only [cntI, q1, if_true] at ih; exact ih) | (have q1 : (sh k != -1) = false := (by simpa using c_26); simp only [cntI, q1, Bool.false_eq_true, if_false, Nat.add_zero] at ih; exact ih)
/-- a shelf is empty, or holds something at an address -/
def HvI (hv : Nat → Value) (hd : Nat → Int32) : Prop := ∀ s, s < 8 → (hv s = .null ∧ hd s = -1) ∨ ((∃ a, hv s = .ref a) ∧ hd s ≠ -1)
theorem pX0_shelved {h2 : List AC} {hd : Nat → Int32} (hV : HvI hv hd) (hQ : Q (some (.int (nI (cntI (fun p => hd p != -1) 8)))) (r0, (xC (.ref 2) iv tP tL tA tK tC tS tH tN tE tZ tf mP mf eP eT eF ef eg ew rx gx wx hv tp td rf rc ic), h2, r3)) : AMet mX0_shelved 1 0 0 [.ref 1] (r0, (xC (.ref 2) iv tP tL tA tK tC tS tH tN tE tZ tf mP mf eP eT eF ef eg ew rx gx wx hv tp td rf rc ic), h2, r3) Q := by
  refine AMet.ofRch rfl rfl (Nat.le_of_ble_eq_true rfl) ?_
  refine r_iconst 0 dX0_shelved_0 (by decide) ?_
  refine r_istore_n dX0_shelved_1 (Nat.le_of_ble_eq_true rfl) ?_
  refine r_iconst 0 dX0_shelved_2 (by decide) ?_
  refine r_istore_n dX0_shelved_3 (Nat.le_of_ble_eq_true rfl) ?_
  refine loopUp (N := 8) (P := fun k => Rch (mX0_shelved, 1, 0, 0, oQ Q) 0 0 4 [some (.ref 1), some (.int (nI (cntI (fun p => hd p != -1) k))), some (.int (nI k))] [] (r0, (xC (.ref 2) iv tP tL tA tK tC tS tH tN tE tZ tf mP mf eP eT eF ef eg ew rx gx wx hv tp td rf rc ic), h2, r3)) ?_ ?_
  · refine r_iload_n dX0_shelved_4 rfl ?_
    refine r_bipush 8 dX0_shelved_5 (by decide) ?_
    refine r_icmp_ge 36 dX0_shelved_7 (by decide) (fun _ => ?_) (fun c_ => absurd (geT 8) c_)
    refine r_iload_n dX0_shelved_36 rfl ?_
    exact r_iret dX0_shelved_37 rfl (Nat.le_of_ble_eq_true rfl) (Nat.le_of_ble_eq_true rfl) (hQ)
  · intro k hk ih
    rcases hV k hk with ⟨e1, e2⟩ | ⟨⟨a, e1⟩, e2⟩
    · have q1 : (hd k != -1) = false := by simpa using e2
      simp only [cntI, q1, Bool.false_eq_true, if_false, Nat.add_zero] at ih
      refine r_iload_n dX0_shelved_4 rfl ?_
      refine r_bipush 8 dX0_shelved_5 (by decide) ?_
      refine r_icmp_ge 36 dX0_shelved_7 (by decide) (fun c_ => absurd c_ (geF hk (by decide))) (fun _ => ?_)
      refine r_iload_n dX0_shelved_10 rfl ?_
      refine r_aload_n dX0_shelved_11 rfl ?_
      refine r_get bX0 8 (by decide) q254 dX0_shelved_12 rfl rfl ?_
      refine r_iload_n dX0_shelved_15 rfl ?_
      refine r_aald_sheet dX0_shelved_16 rfl (vp_in_nI (by omega) (by omega)) ?_
      rw [nI_clamp (by omega)]
      refine r_get bX4 0 (by decide) q242 dX0_shelved_17 (sh_at hk) rfl ?_
      rw [e1]
      refine r_ifnullN 27 dX0_shelved_20 (by decide) ?_
      refine r_iconst 0 dX0_shelved_27 (by decide) ?_
      refine r_iadd dX0_shelved_28 ?_
      rw [Int32.add_zero]
      refine r_istore_n dX0_shelved_29 (Nat.le_of_ble_eq_true rfl) ?_
      refine r_iincV dX0_shelved_30 rfl (Nat.le_of_ble_eq_true rfl) (incN _) ?_
      refine r_goto 4 dX0_shelved_33 (by decide) ?_
      exact ih
    · have q1 : (hd k != -1) = true := by simpa using e2
      simp only [cntI, q1, if_true] at ih
      refine r_iload_n dX0_shelved_4 rfl ?_
      refine r_bipush 8 dX0_shelved_5 (by decide) ?_
      refine r_icmp_ge 36 dX0_shelved_7 (by decide) (fun c_ => absurd c_ (geF hk (by decide))) (fun _ => ?_)
      refine r_iload_n dX0_shelved_10 rfl ?_
      refine r_aload_n dX0_shelved_11 rfl ?_
      refine r_get bX0 8 (by decide) q254 dX0_shelved_12 rfl rfl ?_
      refine r_iload_n dX0_shelved_15 rfl ?_
      refine r_aald_sheet dX0_shelved_16 rfl (vp_in_nI (by omega) (by omega)) ?_
      rw [nI_clamp (by omega)]
      refine r_get bX4 0 (by decide) q242 dX0_shelved_17 (sh_at hk) rfl ?_
      rw [e1]
      refine r_ifnull dX0_shelved_20 ?_
      refine r_iconst 1 dX0_shelved_23 (by decide) ?_
      refine r_goto 28 dX0_shelved_24 (by decide) ?_
      refine r_iadd dX0_shelved_28 ?_
      rw [nI_1]
      refine r_istore_n dX0_shelved_29 (Nat.le_of_ble_eq_true rfl) ?_
      refine r_iincV dX0_shelved_30 rfl (Nat.le_of_ble_eq_true rfl) (incN _) ?_
      refine r_goto 4 dX0_shelved_33 (by decide) ?_
      exact ih
theorem bc12_tab : (List.range 4096).all (fun z => decide (bcF (nI z) = nI (cntI (fun l => hasB (nI z) (nI l)) 12))) = true := by decide +kernel
theorem bc_bits12 {c : Nat → Bool} : bcF (bitsI c 12) = nI (cntI c 12) := by
  obtain ⟨z, hz, e⟩ := bits_ex c 12 (Nat.le_refl _)
  rw [e, of_decide_eq_true (List.all_eq_true.mp bc12_tab z (List.mem_range.mpr hz)), ← e]
  congr 1
  exact cntI_congr 12 (fun j hj => bits_has 12 (Nat.le_refl _) hj)
theorem pX0_status_0 (hQ : Q (some (.int (my))) (r0, (xC (.ref 2) iv tP tL tA tK tC tS tH tN tE tZ tf mP mf eP eT eF ef eg ew rx gx wx hv tp td rf rc ic), (wC th pf nl ag lk co sh hs my ev se lc), r3)) : AMet mX0_status 4 0 0 [.ref 1, .int 0] (r0, (xC (.ref 2) iv tP tL tA tK tC tS tH tN tE tZ tf mP mf eP eT eF ef eg ew rx gx wx hv tp td rf rc ic), (wC th pf nl ag lk co sh hs my ev se lc), r3) Q := by
  refine AMet.ofRch rfl rfl (Nat.le_of_ble_eq_true rfl) ?_
  refine r_iload_n dX0_status_0 rfl ?_
  refine r_bipush 12 dX0_status_1 (by decide) ?_
  refine r_bipush 16 dX0_status_3 (by decide) ?_
  refine r_callS (as := [_, _, _]) okX0_isIn q378 dX0_status_5 (Nat.le_of_ble_eq_true rfl) rfl (Nat.le_of_ble_eq_true rfl) (Nat.le_of_ble_eq_true rfl) (Nat.le_of_ble_eq_true rfl) (pX0_isIn ?_)
  refine r_if_eq 21 dX0_status_8 (by decide) (fun _ => ?_) (fun c_ => absurd (by decide) c_)
  refine r_iload_n dX0_status_21 rfl ?_
  refine r_tableIn 68 dX0_status_22 (by decide) (by decide) rfl (by decide) ?_
  refine r_aload_n dX0_status_68 rfl ?_
  refine r_get bX0 0 (by decide) q246 dX0_status_69 rfl rfl ?_
  refine r_get bX1 7 (by decide) q179 dX0_status_72 rfl rfl ?_
  exact r_iret dX0_status_75 rfl (Nat.le_of_ble_eq_true rfl) (Nat.le_of_ble_eq_true rfl) (hQ)
theorem pX0_status_1 (hQ : Q (some (.int (nI (cntI (fun p => th p != -1) 12)))) (r0, (xC (.ref 2) iv tP tL tA tK tC tS tH tN tE tZ tf mP mf eP eT eF ef eg ew rx gx wx hv tp td rf rc ic), (wC th pf nl ag lk co sh hs my ev se lc), r3)) : AMet mX0_status 4 0 0 [.ref 1, .int 1] (r0, (xC (.ref 2) iv tP tL tA tK tC tS tH tN tE tZ tf mP mf eP eT eF ef eg ew rx gx wx hv tp td rf rc ic), (wC th pf nl ag lk co sh hs my ev se lc), r3) Q := by
  refine AMet.ofRch rfl rfl (Nat.le_of_ble_eq_true rfl) ?_
  refine r_iload_n dX0_status_0 rfl ?_
  refine r_bipush 12 dX0_status_1 (by decide) ?_
  refine r_bipush 16 dX0_status_3 (by decide) ?_
  refine r_callS (as := [_, _, _]) okX0_isIn q378 dX0_status_5 (Nat.le_of_ble_eq_true rfl) rfl (Nat.le_of_ble_eq_true rfl) (Nat.le_of_ble_eq_true rfl) (Nat.le_of_ble_eq_true rfl) (pX0_isIn ?_)
  refine r_if_eq 21 dX0_status_8 (by decide) (fun _ => ?_) (fun c_ => absurd (by decide) c_)
  refine r_iload_n dX0_status_21 rfl ?_
  refine r_tableIn 76 dX0_status_22 (by decide) (by decide) rfl (by decide) ?_
  refine r_aload_n dX0_status_76 rfl ?_
  refine r_get bX0 0 (by decide) q246 dX0_status_77 rfl rfl ?_
  refine r_get bX1 0 (by decide) q160 dX0_status_80 rfl rfl ?_
  refine r_callV (as := []) okX2_things bX2 rfl rfl q1262 dX0_status_83 (Nat.le_of_ble_eq_true rfl) rfl (Nat.le_of_ble_eq_true rfl) (Nat.le_of_ble_eq_true rfl) (Nat.le_of_ble_eq_true rfl) (pX2_things rfl rfl ?_)
  refine r_callS (as := [_]) okJ18_bitCount q1257 dX0_status_86 (Nat.le_of_ble_eq_true rfl) rfl (Nat.le_of_ble_eq_true rfl) (Nat.le_of_ble_eq_true rfl) (Nat.le_of_ble_eq_true rfl) (pJ18_bitCount ?_)
  exact r_iret dX0_status_89 rfl (Nat.le_of_ble_eq_true rfl) (Nat.le_of_ble_eq_true rfl) (qi bc_bits12 hQ)
theorem pX0_status_2 (hn : n ≤ 8) (hQ : Q (some (.int (sumI hs (8 * n)))) (r0, (xC (.ref 2) iv tP tL tA tK tC tS tH tN tE tZ tf mP mf eP eT eF ef eg ew rx gx wx hv tp td rf rc ic), (wC th pf nl ag lk co sh hs (nI n) ev se lc), r3)) : AMet mX0_status 4 0 0 [.ref 1, .int 2] (r0, (xC (.ref 2) iv tP tL tA tK tC tS tH tN tE tZ tf mP mf eP eT eF ef eg ew rx gx wx hv tp td rf rc ic), (wC th pf nl ag lk co sh hs (nI n) ev se lc), r3) Q := by
  refine AMet.ofRch rfl rfl (Nat.le_of_ble_eq_true rfl) ?_
  refine r_iload_n dX0_status_0 rfl ?_
  refine r_bipush 12 dX0_status_1 (by decide) ?_
  refine r_bipush 16 dX0_status_3 (by decide) ?_
  refine r_callS (as := [_, _, _]) okX0_isIn q378 dX0_status_5 (Nat.le_of_ble_eq_true rfl) rfl (Nat.le_of_ble_eq_true rfl) (Nat.le_of_ble_eq_true rfl) (Nat.le_of_ble_eq_true rfl) (pX0_isIn ?_)
  refine r_if_eq 21 dX0_status_8 (by decide) (fun _ => ?_) (fun c_ => absurd (by decide) c_)
  refine r_iload_n dX0_status_21 rfl ?_
  refine r_tableIn 90 dX0_status_22 (by decide) (by decide) rfl (by decide) ?_
  refine r_aload_n dX0_status_90 rfl ?_
  refine r_callV (as := []) okX0_allThings bX0 rfl rfl q1505 dX0_status_91 (Nat.le_of_ble_eq_true rfl) rfl (Nat.le_of_ble_eq_true rfl) (Nat.le_of_ble_eq_true rfl) (Nat.le_of_ble_eq_true rfl) (pX0_allThings hn ?_)
  exact r_iret dX0_status_94 rfl (Nat.le_of_ble_eq_true rfl) (Nat.le_of_ble_eq_true rfl) (hQ)
theorem pX0_status_3 (hQ : Q (some (.int (ev))) (r0, (xC (.ref 2) iv tP tL tA tK tC tS tH tN tE tZ tf mP mf eP eT eF ef eg ew rx gx wx hv tp td rf rc ic), (wC th pf nl ag lk co sh hs my ev se lc), r3)) : AMet mX0_status 4 0 0 [.ref 1, .int 3] (r0, (xC (.ref 2) iv tP tL tA tK tC tS tH tN tE tZ tf mP mf eP eT eF ef eg ew rx gx wx hv tp td rf rc ic), (wC th pf nl ag lk co sh hs my ev se lc), r3) Q := by
  refine AMet.ofRch rfl rfl (Nat.le_of_ble_eq_true rfl) ?_
  refine r_iload_n dX0_status_0 rfl ?_
  refine r_bipush 12 dX0_status_1 (by decide) ?_
  refine r_bipush 16 dX0_status_3 (by decide) ?_
  refine r_callS (as := [_, _, _]) okX0_isIn q378 dX0_status_5 (Nat.le_of_ble_eq_true rfl) rfl (Nat.le_of_ble_eq_true rfl) (Nat.le_of_ble_eq_true rfl) (Nat.le_of_ble_eq_true rfl) (pX0_isIn ?_)
  refine r_if_eq 21 dX0_status_8 (by decide) (fun _ => ?_) (fun c_ => absurd (by decide) c_)
  refine r_iload_n dX0_status_21 rfl ?_
  refine r_tableIn 95 dX0_status_22 (by decide) (by decide) rfl (by decide) ?_
  refine r_aload_n dX0_status_95 rfl ?_
  refine r_get bX0 0 (by decide) q246 dX0_status_96 rfl rfl ?_
  refine r_get bX1 8 (by decide) q181 dX0_status_99 rfl rfl ?_
  exact r_iret dX0_status_102 rfl (Nat.le_of_ble_eq_true rfl) (Nat.le_of_ble_eq_true rfl) (hQ)
theorem pX0_status_4 (hn : n ≤ 8) (hQ : Q (some (.int (nI (cntI (fun p => sh p != -1) n)))) (r0, (xC (.ref 2) iv tP tL tA tK tC tS tH tN tE tZ tf mP mf eP eT eF ef eg ew rx gx wx hv tp td rf rc ic), (wC th pf nl ag lk co sh hs (nI n) ev se lc), r3)) : AMet mX0_status 4 0 0 [.ref 1, .int 4] (r0, (xC (.ref 2) iv tP tL tA tK tC tS tH tN tE tZ tf mP mf eP eT eF ef eg ew rx gx wx hv tp td rf rc ic), (wC th pf nl ag lk co sh hs (nI n) ev se lc), r3) Q := by
  refine AMet.ofRch rfl rfl (Nat.le_of_ble_eq_true rfl) ?_
  refine r_iload_n dX0_status_0 rfl ?_
  refine r_bipush 12 dX0_status_1 (by decide) ?_
  refine r_bipush 16 dX0_status_3 (by decide) ?_
  refine r_callS (as := [_, _, _]) okX0_isIn q378 dX0_status_5 (Nat.le_of_ble_eq_true rfl) rfl (Nat.le_of_ble_eq_true rfl) (Nat.le_of_ble_eq_true rfl) (Nat.le_of_ble_eq_true rfl) (pX0_isIn ?_)
  refine r_if_eq 21 dX0_status_8 (by decide) (fun _ => ?_) (fun c_ => absurd (by decide) c_)
  refine r_iload_n dX0_status_21 rfl ?_
  refine r_tableIn 103 dX0_status_22 (by decide) (by decide) rfl (by decide) ?_
  refine r_aload_n dX0_status_103 rfl ?_
  refine r_callV (as := []) okX0_shining bX0 rfl rfl q1509 dX0_status_104 (Nat.le_of_ble_eq_true rfl) rfl (Nat.le_of_ble_eq_true rfl) (Nat.le_of_ble_eq_true rfl) (Nat.le_of_ble_eq_true rfl) (pX0_shining hn ?_)
  exact r_iret dX0_status_107 rfl (Nat.le_of_ble_eq_true rfl) (Nat.le_of_ble_eq_true rfl) (hQ)
theorem pX0_status_5 (hQ : Q (some (.int (td))) (r0, (xC (.ref 2) iv tP tL tA tK tC tS tH tN tE tZ tf mP mf eP eT eF ef eg ew rx gx wx hv tp td rf rc ic), (wC th pf nl ag lk co sh hs my ev se lc), r3)) : AMet mX0_status 4 0 0 [.ref 1, .int 5] (r0, (xC (.ref 2) iv tP tL tA tK tC tS tH tN tE tZ tf mP mf eP eT eF ef eg ew rx gx wx hv tp td rf rc ic), (wC th pf nl ag lk co sh hs my ev se lc), r3) Q := by
  refine AMet.ofRch rfl rfl (Nat.le_of_ble_eq_true rfl) ?_
  refine r_iload_n dX0_status_0 rfl ?_
  refine r_bipush 12 dX0_status_1 (by decide) ?_
  refine r_bipush 16 dX0_status_3 (by decide) ?_
  refine r_callS (as := [_, _, _]) okX0_isIn q378 dX0_status_5 (Nat.le_of_ble_eq_true rfl) rfl (Nat.le_of_ble_eq_true rfl) (Nat.le_of_ble_eq_true rfl) (Nat.le_of_ble_eq_true rfl) (pX0_isIn ?_)
  refine r_if_eq 21 dX0_status_8 (by decide) (fun _ => ?_) (fun c_ => absurd (by decide) c_)
  refine r_iload_n dX0_status_21 rfl ?_
  refine r_tableIn 108 dX0_status_22 (by decide) (by decide) rfl (by decide) ?_
  refine r_aload_n dX0_status_108 rfl ?_
  refine r_get bX0 10 (by decide) q256 dX0_status_109 rfl rfl ?_
  exact r_iret dX0_status_112 rfl (Nat.le_of_ble_eq_true rfl) (Nat.le_of_ble_eq_true rfl) (hQ)
theorem pX0_status_6 (hQ : Q (some (.int (se))) (r0, (xC (.ref 2) iv tP tL tA tK tC tS tH tN tE tZ tf mP mf eP eT eF ef eg ew rx gx wx hv tp td rf rc ic), (wC th pf nl ag lk co sh hs my ev se lc), r3)) : AMet mX0_status 4 0 0 [.ref 1, .int 6] (r0, (xC (.ref 2) iv tP tL tA tK tC tS tH tN tE tZ tf mP mf eP eT eF ef eg ew rx gx wx hv tp td rf rc ic), (wC th pf nl ag lk co sh hs my ev se lc), r3) Q := by
  refine AMet.ofRch rfl rfl (Nat.le_of_ble_eq_true rfl) ?_
  refine r_iload_n dX0_status_0 rfl ?_
  refine r_bipush 12 dX0_status_1 (by decide) ?_
  refine r_bipush 16 dX0_status_3 (by decide) ?_
  refine r_callS (as := [_, _, _]) okX0_isIn q378 dX0_status_5 (Nat.le_of_ble_eq_true rfl) rfl (Nat.le_of_ble_eq_true rfl) (Nat.le_of_ble_eq_true rfl) (Nat.le_of_ble_eq_true rfl) (pX0_isIn ?_)
  refine r_if_eq 21 dX0_status_8 (by decide) (fun _ => ?_) (fun c_ => absurd (by decide) c_)
  refine r_iload_n dX0_status_21 rfl ?_
  refine r_tableIn 113 dX0_status_22 (by decide) (by decide) rfl (by decide) ?_
  refine r_aload_n dX0_status_113 rfl ?_
  refine r_get bX0 0 (by decide) q246 dX0_status_114 rfl rfl ?_
  refine r_get bX1 9 (by decide) q183 dX0_status_117 rfl rfl ?_
  exact r_iret dX0_status_120 rfl (Nat.le_of_ble_eq_true rfl) (Nat.le_of_ble_eq_true rfl) (hQ)
theorem pX0_status_7 {hd : Nat → Int32} (hV : HvI hv hd) (hQ : Q (some (.int (nI (cntI (fun p => hd p != -1) 8)))) (r0, (xC (.ref 2) iv tP tL tA tK tC tS tH tN tE tZ tf mP mf eP eT eF ef eg ew rx gx wx hv tp td rf rc ic), (wC th pf nl ag lk co sh hs my ev se lc), r3)) : AMet mX0_status 4 0 0 [.ref 1, .int 7] (r0, (xC (.ref 2) iv tP tL tA tK tC tS tH tN tE tZ tf mP mf eP eT eF ef eg ew rx gx wx hv tp td rf rc ic), (wC th pf nl ag lk co sh hs my ev se lc), r3) Q := by
  refine AMet.ofRch rfl rfl (Nat.le_of_ble_eq_true rfl) ?_
  refine r_iload_n dX0_status_0 rfl ?_
  refine r_bipush 12 dX0_status_1 (by decide) ?_
  refine r_bipush 16 dX0_status_3 (by decide) ?_
  refine r_callS (as := [_, _, _]) okX0_isIn q378 dX0_status_5 (Nat.le_of_ble_eq_true rfl) rfl (Nat.le_of_ble_eq_true rfl) (Nat.le_of_ble_eq_true rfl) (Nat.le_of_ble_eq_true rfl) (pX0_isIn ?_)
  refine r_if_eq 21 dX0_status_8 (by decide) (fun _ => ?_) (fun c_ => absurd (by decide) c_)
  refine r_iload_n dX0_status_21 rfl ?_
  refine r_tableIn 121 dX0_status_22 (by decide) (by decide) rfl (by decide) ?_
  refine r_aload_n dX0_status_121 rfl ?_
  refine r_callV (as := []) okX0_shelved bX0 rfl rfl q1513 dX0_status_122 (Nat.le_of_ble_eq_true rfl) rfl (Nat.le_of_ble_eq_true rfl) (Nat.le_of_ble_eq_true rfl) (Nat.le_of_ble_eq_true rfl) (pX0_shelved hV ?_)
  exact r_iret dX0_status_125 rfl (Nat.le_of_ble_eq_true rfl) (Nat.le_of_ble_eq_true rfl) (hQ)
theorem pX0_status_8 {h2 : List AC} {i : Int32} (h8 : ∀ j, j < 8 → i ≠ nI j) (hno : inB i 12 16 = false → Q (some (.int (-1))) (r0, (xC (.ref 2) iv tP tL tA tK tC tS tH tN tE tZ tf mP mf eP eT eF ef eg ew rx gx wx hv tp td rf rc ic), h2, r3)) (hok : ∀ j, 2 ≤ j → j ≤ 6 → i = nI (10 + j) → Q (some (.int (rf j))) (r0, (xC (.ref 2) iv tP tL tA tK tC tS tH tN tE tZ tf mP mf eP eT eF ef eg ew rx gx wx hv tp td rf rc ic), h2, r3)) : AMet mX0_status 4 0 0 [.ref 1, .int i] (r0, (xC (.ref 2) iv tP tL tA tK tC tS tH tN tE tZ tf mP mf eP eT eF ef eg ew rx gx wx hv tp td rf rc ic), h2, r3) Q := by
  refine AMet.ofRch rfl rfl (Nat.le_of_ble_eq_true rfl) ?_
  have hx : i.toInt < 0 ∨ 7 < i.toInt := by
    by_cases g : i.toInt < 0
    · exact Or.inl g
    · by_cases g2 : 7 < i.toInt
      · exact Or.inr g2
      · refine absurd ?_ (h8 i.toInt.toNat (by omega))
        refine Int32.toInt_inj.mp ?_
        rw [nI_toInt (by omega)]
        omega
  cases hb : inB i 12 16 with
  | false =>
    refine r_iload_n dX0_status_0 rfl ?_
    refine r_bipush 12 dX0_status_1 (by decide) ?_
    refine r_bipush 16 dX0_status_3 (by decide) ?_
    refine r_callS (as := [_, _, _]) okX0_isIn q378 dX0_status_5 (Nat.le_of_ble_eq_true rfl) rfl (Nat.le_of_ble_eq_true rfl) (Nat.le_of_ble_eq_true rfl) (Nat.le_of_ble_eq_true rfl) (pX0_isIn ?_)
    refine r_if_eq 21 dX0_status_8 (by decide) (fun _ => ?_) (fun c_ => absurd (b2i_0.mpr hb) c_)
    refine r_iload_n dX0_status_21 rfl ?_
    refine r_tableOut 126 dX0_status_22 hx (by decide) ?_
    refine r_iconst (-1) dX0_status_126 (by decide) ?_
    exact r_iret dX0_status_127 rfl (Nat.le_of_ble_eq_true rfl) (Nat.le_of_ble_eq_true rfl) (hno hb)
  | true =>
    obtain ⟨j, g1, g2, rfl⟩ := inB_ex2 (a := 12) (b := 16) (by decide) (by decide) hb
    refine r_iload_n dX0_status_0 rfl ?_
    refine r_bipush 12 dX0_status_1 (by decide) ?_
    refine r_bipush 16 dX0_status_3 (by decide) ?_
    refine r_callS (as := [_, _, _]) okX0_isIn q378 dX0_status_5 (Nat.le_of_ble_eq_true rfl) rfl (Nat.le_of_ble_eq_true rfl) (Nat.le_of_ble_eq_true rfl) (Nat.le_of_ble_eq_true rfl) (pX0_isIn ?_)
    refine r_if_eq 21 dX0_status_8 (by decide) (fun c_ => absurd c_ (b2i_n.mpr hb)) (fun _ => ?_)
    refine r_aload_n dX0_status_11 rfl ?_
    refine r_get bX0 11 (by decide) q257 dX0_status_12 rfl rfl ?_
    refine r_iload_n dX0_status_15 rfl ?_
    refine r_bipush 10 dX0_status_16 (by decide) ?_
    refine r_isub dX0_status_18 ?_
    rw [show (10 : Int32) = nI 10 from rfl, pk_sub (by omega)]
    refine r_ialdN dX0_status_19 rfl (by omega) (Nat.le_of_ble_eq_true rfl) ?_
    exact r_iret dX0_status_20 rfl (Nat.le_of_ble_eq_true rfl) (Nat.le_of_ble_eq_true rfl) (hok (j - 10) (by omega) (by omega) (by rw [show 10 + (j - 10) = j by omega]))
end XX
