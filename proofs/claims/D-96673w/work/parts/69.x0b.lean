set_option maxRecDepth 100000
/-! the component: the window tried -/
theorem r_normQ {J : Jb} {ce sl pc : Nat} {lv : List (Option Value)} {st : List Value} {h : AHp} {a n : Nat} {ty : FieldType} {f : Nat → Option Nat} (f' : Nat → Option Nat) (hg : aGet h a = some (.inl (ty, n, .inr (.inr (.inr (.inr f)))))) (he : ∀ j, j < n → f j = f' j) (kk : Rch J ce sl pc lv st (aSet h a (.inl (ty, n, .inr (.inr (.inr (.inr f'))))))) : Rch J ce sl pc lv st h := by
  intro l G sg R p e s m args below meth c H locs ls hR C hl hH hS
  have hat : H[sg a]? = some (arrV (G.2.1 ty) n (fun j => va_rf ((f j).map sg))) := hH.at (c := .inl (ty, n, .inr (.inr (.inr (.inr f))))) rfl hg
  have heq : arrV (G.2.1 ty) n (fun j => va_rf ((f j).map sg)) = arrV (G.2.1 ty) n (fun j => va_rf ((f' j).map sg)) := by
    unfold arrV
    congr 2
    funext j
    exact congrArg (fun z => va_rf (Option.map sg z)) (he j.val j.isLt)
  obtain ⟨hH1, -⟩ := hH.set (c' := .inl (ty, n, .inr (.inr (.inr (.inr f'))))) rfl rfl hg (by
    show H[sg a]? = some (arrV (G.2.1 ty) n (fun j => va_rf ((f' j).map sg)))
    rw [hat, heq]) rfl (fun _ _ => rfl)
  exact kk l G sg R p e s m args below meth c H locs ls hR C hl hH1 hS
section XX
variable {iv : Value} {tP : Nat → Int32} {tL : Nat → Option Nat} {tA tK tC tS tH : Nat → Int32} {tN tE tZ tf : Int32} {mP : Nat → Int32} {mf : Int32} {eP eT eF : Nat → Int32} {ef eg : Int32} {ew : Value} {rx gx wx : Nat → Int32} {hv : Nat → Value} {tp : Nat → Int32} {td : Int32} {rf : Nat → Int32} {rc ic : Nat → AC} {th : Nat → Int32} {pf : Int32} {nl : Nat → Option Nat} {ag lk co sh hs : Nat → Int32} {my ev se : Int32} {lc : Nat → AC} {r0 r3 : List AC} {Q : Option Value → AHp → Prop} {n : Nat} {kN : Nat → Nat} {ow : Nat → Int32}
theorem lk_el (hL : LkI lc r3 nl kN ow n) (hN : ∀ j, n ≤ j → nl j = none) {x1 : List AC} {th' : Nat → Int32} {i y : Nat} (h : nl (0 + i) = some y) : ∃ k fs, k < 6 ∧ aGet (r0, x1, (wC (th') pf nl ag lk co sh hs (nI n) ev se lc), r3) y = some (.inr (7 + k, fs)) := by
  rw [Nat.zero_add] at h
  by_cases hi : i < n
  · obtain ⟨k6, w, a, -, -, e, -, hc⟩ := hL.at hi
    cases e.symm.trans h
    exact ⟨_, _, k6, hc _ _ _ _ _ _ _ _ _ _ _ _ _⟩
  · rw [hN i (by omega)] at h
    cases h
theorem pX1_becomes_t (hn : n ≤ 8) (hL : LkI lc r3 nl kN ow n) (hN : ∀ j, n ≤ j → nl j = none) (hP : ThI th) (hQ : Q (some (.ref 9)) (r0, (xC (.ref 2) iv (th) (nl) (ag) (lk) (co) (sh) (hs) (nI n) (ev) (se) tf mP mf eP eT eF ef eg ew rx gx wx hv tp td rf rc ic), (wC th pf nl ag lk co sh hs (nI n) ev se lc), r3)) : AMet mX1_becomes 2 0 0 [.ref 9, .ref 2] (r0, (xC (.ref 2) iv tP tL tA tK tC tS tH tN tE tZ tf mP mf eP eT eF ef eg ew rx gx wx hv tp td rf rc ic), (wC th pf nl ag lk co sh hs (nI n) ev se lc), r3) Q := by
  refine AMet.ofRch rfl rfl (Nat.le_of_ble_eq_true rfl) ?_
  refine r_aload_n dX1_becomes_0 rfl ?_
  refine r_get bX1 0 (by decide) q157 dX1_becomes_1 rfl rfl ?_
  refine r_aload_n dX1_becomes_4 rfl ?_
  refine r_get bX1 0 (by decide) q157 dX1_becomes_5 rfl rfl ?_
  refine r_callV (as := [_]) okX2_becomes bX2 rfl rfl q1004 dX1_becomes_8 (Nat.le_of_ble_eq_true rfl) rfl (Nat.le_of_ble_eq_true rfl) (Nat.le_of_ble_eq_true rfl) (Nat.le_of_ble_eq_true rfl) (pX2_becomes (a := 17) (s := 25) (b := 10) rfl rfl rfl rfl ?_)
  refine r_pop dX1_becomes_11 rfl ?_
  show Rch _ _ _ _ _ _ (r0, (xC (.ref 2) iv (th) tL tA tK tC tS tH tN tE tZ tf mP mf eP eT eF ef eg ew rx gx wx hv tp td rf rc ic), (wC th pf nl ag lk co sh hs (nI n) ev se lc), r3)
  refine r_aload_n dX1_becomes_12 rfl ?_
  refine r_get bX1 1 (by decide) q161 dX1_becomes_13 rfl rfl ?_
  refine r_iconst 0 dX1_becomes_16 (by decide) ?_
  refine r_aload_n dX1_becomes_17 rfl ?_
  refine r_get bX1 1 (by decide) q161 dX1_becomes_18 rfl rfl ?_
  refine r_iconst 0 dX1_becomes_21 (by decide) ?_
  refine r_bipush 8 dX1_becomes_22 (by decide) ?_
  refine r_copyq q1005 dX1_becomes_24 rfl rfl (by decide) (by decide) (by decide) (by decide) (by decide) (fun i _ y hy => lk_el hL hN hy) (Nat.le_of_ble_eq_true rfl) ?_
  refine r_normQ (a := 33) (n := 8) nl rfl (fun j hj => cpy_in hj) ?_
  show Rch _ _ _ _ _ _ (r0, (xC (.ref 2) iv (th) (nl) tA tK tC tS tH tN tE tZ tf mP mf eP eT eF ef eg ew rx gx wx hv tp td rf rc ic), (wC th pf nl ag lk co sh hs (nI n) ev se lc), r3)
  refine r_aload_n dX1_becomes_27 rfl ?_
  refine r_get bX1 2 (by decide) q164 dX1_becomes_28 rfl rfl ?_
  refine r_iconst 0 dX1_becomes_31 (by decide) ?_
  refine r_aload_n dX1_becomes_32 rfl ?_
  refine r_get bX1 2 (by decide) q164 dX1_becomes_33 rfl rfl ?_
  refine r_iconst 0 dX1_becomes_36 (by decide) ?_
  refine r_bipush 8 dX1_becomes_37 (by decide) ?_
  refine r_copyi (ty := .int) 0 rfl rfl q1005 dX1_becomes_39 rfl rfl (by decide) (by decide) (by decide) (by decide) (by decide) (fun _ _ => rfl) (Nat.le_of_ble_eq_true rfl) ?_
  refine r_norm (a := 41) (n := 8) ag rfl (fun j hj => cpy_in hj) ?_
  show Rch _ _ _ _ _ _ (r0, (xC (.ref 2) iv (th) (nl) (ag) tK tC tS tH tN tE tZ tf mP mf eP eT eF ef eg ew rx gx wx hv tp td rf rc ic), (wC th pf nl ag lk co sh hs (nI n) ev se lc), r3)
  refine r_aload_n dX1_becomes_42 rfl ?_
  refine r_get bX1 3 (by decide) q166 dX1_becomes_43 rfl rfl ?_
  refine r_iconst 0 dX1_becomes_46 (by decide) ?_
  refine r_aload_n dX1_becomes_47 rfl ?_
  refine r_get bX1 3 (by decide) q166 dX1_becomes_48 rfl rfl ?_
  refine r_iconst 0 dX1_becomes_51 (by decide) ?_
  refine r_bipush 8 dX1_becomes_52 (by decide) ?_
  refine r_copyi (ty := .int) 0 rfl rfl q1005 dX1_becomes_54 rfl rfl (by decide) (by decide) (by decide) (by decide) (by decide) (fun _ _ => rfl) (Nat.le_of_ble_eq_true rfl) ?_
  refine r_norm (a := 49) (n := 8) lk rfl (fun j hj => cpy_in hj) ?_
  show Rch _ _ _ _ _ _ (r0, (xC (.ref 2) iv (th) (nl) (ag) (lk) tC tS tH tN tE tZ tf mP mf eP eT eF ef eg ew rx gx wx hv tp td rf rc ic), (wC th pf nl ag lk co sh hs (nI n) ev se lc), r3)
  refine r_aload_n dX1_becomes_57 rfl ?_
  refine r_get bX1 4 (by decide) q169 dX1_becomes_58 rfl rfl ?_
  refine r_iconst 0 dX1_becomes_61 (by decide) ?_
  refine r_aload_n dX1_becomes_62 rfl ?_
  refine r_get bX1 4 (by decide) q169 dX1_becomes_63 rfl rfl ?_
  refine r_iconst 0 dX1_becomes_66 (by decide) ?_
  refine r_bipush 8 dX1_becomes_67 (by decide) ?_
  refine r_copyi (ty := .int) 0 rfl rfl q1005 dX1_becomes_69 rfl rfl (by decide) (by decide) (by decide) (by decide) (by decide) (fun _ _ => rfl) (Nat.le_of_ble_eq_true rfl) ?_
  refine r_norm (a := 57) (n := 8) co rfl (fun j hj => cpy_in hj) ?_
  show Rch _ _ _ _ _ _ (r0, (xC (.ref 2) iv (th) (nl) (ag) (lk) (co) tS tH tN tE tZ tf mP mf eP eT eF ef eg ew rx gx wx hv tp td rf rc ic), (wC th pf nl ag lk co sh hs (nI n) ev se lc), r3)
  refine r_aload_n dX1_becomes_72 rfl ?_
  refine r_get bX1 5 (by decide) q172 dX1_becomes_73 rfl rfl ?_
  refine r_iconst 0 dX1_becomes_76 (by decide) ?_
  refine r_aload_n dX1_becomes_77 rfl ?_
  refine r_get bX1 5 (by decide) q172 dX1_becomes_78 rfl rfl ?_
  refine r_iconst 0 dX1_becomes_81 (by decide) ?_
  refine r_bipush 8 dX1_becomes_82 (by decide) ?_
  refine r_copyi (ty := .int) 0 rfl rfl q1005 dX1_becomes_84 rfl rfl (by decide) (by decide) (by decide) (by decide) (by decide) (fun _ _ => rfl) (Nat.le_of_ble_eq_true rfl) ?_
  refine r_norm (a := 65) (n := 8) sh rfl (fun j hj => cpy_in hj) ?_
  show Rch _ _ _ _ _ _ (r0, (xC (.ref 2) iv (th) (nl) (ag) (lk) (co) (sh) tH tN tE tZ tf mP mf eP eT eF ef eg ew rx gx wx hv tp td rf rc ic), (wC th pf nl ag lk co sh hs (nI n) ev se lc), r3)
  refine r_aload_n dX1_becomes_87 rfl ?_
  refine r_get bX1 6 (by decide) q175 dX1_becomes_88 rfl rfl ?_
  refine r_iconst 0 dX1_becomes_91 (by decide) ?_
  refine r_aload_n dX1_becomes_92 rfl ?_
  refine r_get bX1 6 (by decide) q175 dX1_becomes_93 rfl rfl ?_
  refine r_iconst 0 dX1_becomes_96 (by decide) ?_
  refine r_bipush 64 dX1_becomes_97 (by decide) ?_
  refine r_copyi (ty := .int) 0 rfl rfl q1005 dX1_becomes_99 rfl rfl (by decide) (by decide) (by decide) (by decide) (by decide) (fun _ _ => rfl) (Nat.le_of_ble_eq_true rfl) ?_
  refine r_norm (a := 73) (n := 64) hs rfl (fun j hj => cpy_in hj) ?_
  show Rch _ _ _ _ _ _ (r0, (xC (.ref 2) iv (th) (nl) (ag) (lk) (co) (sh) (hs) tN tE tZ tf mP mf eP eT eF ef eg ew rx gx wx hv tp td rf rc ic), (wC th pf nl ag lk co sh hs (nI n) ev se lc), r3)
  refine r_aload_n dX1_becomes_102 rfl ?_
  refine r_aload_n dX1_becomes_103 rfl ?_
  refine r_get bX1 7 (by decide) q177 dX1_becomes_104 rfl rfl ?_
  refine r_put bX1 7 (by decide) rfl q177 dX1_becomes_107 rfl rfl rfl (Nat.le_of_ble_eq_true rfl) ?_
  refine r_aload_n dX1_becomes_110 rfl ?_
  refine r_aload_n dX1_becomes_111 rfl ?_
  refine r_get bX1 8 (by decide) q180 dX1_becomes_112 rfl rfl ?_
  refine r_put bX1 8 (by decide) rfl q180 dX1_becomes_115 rfl rfl rfl (Nat.le_of_ble_eq_true rfl) ?_
  refine r_aload_n dX1_becomes_118 rfl ?_
  refine r_aload_n dX1_becomes_119 rfl ?_
  refine r_get bX1 9 (by decide) q182 dX1_becomes_120 rfl rfl ?_
  refine r_put bX1 9 (by decide) rfl q182 dX1_becomes_123 rfl rfl rfl (Nat.le_of_ble_eq_true rfl) ?_
  refine r_aload_n dX1_becomes_126 rfl ?_
  exact r_aret dX1_becomes_127 rfl (by first | exact Or.inl ⟨_, rfl⟩ | exact Or.inr ⟨_, rfl⟩) (Nat.le_of_ble_eq_true rfl) (Nat.le_of_ble_eq_true rfl) (hQ)
theorem pX0_tried (hn : n ≤ 8) (hL : LkI lc r3 nl kN ow n) (hN : ∀ j, n ≤ j → nl j = none) (hP : ThI th) (hQ : Q (some (.ref 9)) (r0, (xC (.ref 2) iv (th) (nl) (ag) (lk) (co) (sh) (hs) (nI n) (ev) (se) tf mP mf eP eT eF ef eg ew rx gx wx hv tp td rf rc ic), (wC th pf nl ag lk co sh hs (nI n) ev se lc), r3)) : AMet mX0_tried 3 0 0 [.ref 1] (r0, (xC (.ref 2) iv tP tL tA tK tC tS tH tN tE tZ tf mP mf eP eT eF ef eg ew rx gx wx hv tp td rf rc ic), (wC th pf nl ag lk co sh hs (nI n) ev se lc), r3) Q := by
  refine AMet.ofRch rfl rfl (Nat.le_of_ble_eq_true rfl) ?_
  refine r_aload_n dX0_tried_0 rfl ?_
  refine r_get bX0 2 (by decide) q248 dX0_tried_1 rfl rfl ?_
  refine r_aload_n dX0_tried_4 rfl ?_
  refine r_get bX0 0 (by decide) q246 dX0_tried_5 rfl rfl ?_
  refine r_callV (as := [_]) okX1_becomes bX1 rfl rfl q1309 dX0_tried_8 (Nat.le_of_ble_eq_true rfl) rfl (Nat.le_of_ble_eq_true rfl) (Nat.le_of_ble_eq_true rfl) (Nat.le_of_ble_eq_true rfl) (pX1_becomes_t hn hL hN hP ?_)
  exact r_aret dX0_tried_11 rfl (by first | exact Or.inl ⟨_, rfl⟩ | exact Or.inr ⟨_, rfl⟩) (Nat.le_of_ble_eq_true rfl) (Nat.le_of_ble_eq_true rfl) (hQ)
theorem pX0_gladWith {x y : Nat} (hn : n ≤ 8) (hL : LkI lc r3 nl kN ow n) (hN : ∀ j, n ≤ j → nl j = none) (hP : ThI th) (hx : x < n) (hy : y < n) (hQ : ∀ (tP tA tK tC tS tH : Nat → Int32) (tL : Nat → Option Nat) (tN tE tZ : Int32) (eP eT eF : Nat → Int32) (ef eg : Int32) (ew : Value), Q (some (.int (exF kN ow lk ag n th x y))) (r0, (xC (.ref 2) iv tP tL tA tK tC tS tH tN tE tZ tf mP mf eP eT eF ef eg ew rx gx wx hv tp td rf rc ic), (wC th pf nl ag lk co sh hs (nI n) ev se lc), r3)) : AMet mX0_gladWith 10 0 0 [.ref 1, .int (nI x), .int (nI y)] (r0, (xC (.ref 2) iv tP tL tA tK tC tS tH tN tE tZ tf mP mf eP eT eF ef eg ew rx gx wx hv tp td rf rc ic), (wC th pf nl ag lk co sh hs (nI n) ev se lc), r3) Q := by
  refine AMet.ofRch rfl rfl (Nat.le_of_ble_eq_true rfl) ?_
  refine r_aload_n dX0_gladWith_0 rfl ?_
  refine r_callV (as := []) okX0_tried bX0 rfl rfl q1305 dX0_gladWith_1 (Nat.le_of_ble_eq_true rfl) rfl (Nat.le_of_ble_eq_true rfl) (Nat.le_of_ble_eq_true rfl) (Nat.le_of_ble_eq_true rfl) (pX0_tried hn hL hN hP ?_)
  refine r_astore_n dX0_gladWith_4 (Nat.le_of_ble_eq_true rfl) ?_
  refine r_aload_n dX0_gladWith_5 rfl ?_
  refine r_get bX1 2 (by decide) q165 dX0_gladWith_6 rfl rfl ?_
  refine r_iload_n dX0_gladWith_9 rfl ?_
  refine r_aload_n dX0_gladWith_10 rfl ?_
  refine r_get bX0 0 (by decide) q246 dX0_gladWith_11 rfl rfl ?_
  refine r_get bX1 2 (by decide) q165 dX0_gladWith_14 rfl rfl ?_
  refine r_iload_n dX0_gladWith_17 rfl ?_
  refine r_ialdN dX0_gladWith_18 rfl (by omega) (Nat.le_of_ble_eq_true rfl) ?_
  refine r_iastN dX0_gladWith_19 rfl (by omega) (Nat.le_of_ble_eq_true rfl) ?_
  refine r_aload_n dX0_gladWith_20 rfl ?_
  refine r_get bX1 2 (by decide) q165 dX0_gladWith_21 rfl rfl ?_
  refine r_iload_n dX0_gladWith_24 rfl ?_
  refine r_aload_n dX0_gladWith_25 rfl ?_
  refine r_get bX0 0 (by decide) q246 dX0_gladWith_26 rfl rfl ?_
  refine r_get bX1 2 (by decide) q165 dX0_gladWith_29 rfl rfl ?_
  refine r_iload_n dX0_gladWith_32 rfl ?_
  refine r_ialdN dX0_gladWith_33 rfl (by omega) (Nat.le_of_ble_eq_true rfl) ?_
  refine r_iastN dX0_gladWith_34 rfl (by omega) (Nat.le_of_ble_eq_true rfl) ?_
  refine r_aload_n dX0_gladWith_35 rfl ?_
  refine r_get bX0 4 (by decide) q250 dX0_gladWith_36 rfl rfl ?_
  refine r_aload_n dX0_gladWith_39 rfl ?_
  refine r_aload_n dX0_gladWith_40 rfl ?_
  refine r_callV (as := []) okX1_everybody bX1 rfl rfl q1223 dX0_gladWith_41 (Nat.le_of_ble_eq_true rfl) rfl (Nat.le_of_ble_eq_true rfl) (Nat.le_of_ble_eq_true rfl) (Nat.le_of_ble_eq_true rfl) (pX1_everybody rfl ?_)
  rw [shl1m hn]
  refine r_callV (as := [_, _]) okX3_of bX3 rfl rfl q547 dX0_gladWith_44 (Nat.le_of_ble_eq_true rfl) rfl (Nat.le_of_ble_eq_true rfl) (Nat.le_of_ble_eq_true rfl) (Nat.le_of_ble_eq_true rfl) (pX3_of_t (tL := nl) (tP := th) (tK := lk) (tA := upd (upd ag x (ag y)) y (ag x)) hn hL hP (fun ef2 => ?_))
  refine r_callV (as := []) okX3_many bX3 rfl rfl q1243 dX0_gladWith_47 (Nat.le_of_ble_eq_true rfl) rfl (Nat.le_of_ble_eq_true rfl) (Nat.le_of_ble_eq_true rfl) (Nat.le_of_ble_eq_true rfl) (pX3_many rfl ?_)
  exact r_iret dX0_gladWith_50 rfl (Nat.le_of_ble_eq_true rfl) (Nat.le_of_ble_eq_true rfl) (qi (bc_bits hn) (hQ _ _ _ _ _ _ _ _ _ _ _ _ _ _ _ _))
theorem pX0_exchanged {l q : Int32} (hn : n ≤ 8) (hL : LkI lc r3 nl kN ow n) (hN : ∀ j, n ≤ j → nl j = none) (hP : ThI th) (hbad : (inB l 0 (nI n - 1) && (inB q 0 (nI n - 1) && l != q)) = false → Q (some (.int (-2))) (r0, (xC (.ref 2) iv tP tL tA tK tC tS tH tN tE tZ tf mP mf eP eT eF ef eg ew rx gx wx hv tp td (upd rf 2 (rf 2 + 1)) rc ic), (wC th pf nl ag lk co sh hs (nI n) ev se lc), r3)) (hok : ∀ x y, x < n → y < n → x ≠ y → l = nI x → q = nI y → ∀ (tP tA tK tC tS tH : Nat → Int32) (tL : Nat → Option Nat) (tN tE tZ : Int32) (eP eT eF : Nat → Int32) (ef eg : Int32) (ew : Value), Q (some (.int (exF kN ow lk ag n th x y))) (r0, (xC (.ref 2) iv tP tL tA tK tC tS tH tN tE tZ tf mP mf eP eT eF ef eg ew rx gx wx hv tp td rf rc ic), (wC th pf nl ag lk co sh hs (nI n) ev se lc), r3)) : AMet mX0_exchanged 11 0 0 [.ref 1, .int l, .int q] (r0, (xC (.ref 2) iv tP tL tA tK tC tS tH tN tE tZ tf mP mf eP eT eF ef eg ew rx gx wx hv tp td rf rc ic), (wC th pf nl ag lk co sh hs (nI n) ev se lc), r3) Q := by
  refine AMet.ofRch rfl rfl (Nat.le_of_ble_eq_true rfl) ?_
  cases g : (inB l 0 (nI n - 1) && (inB q 0 (nI n - 1) && l != q)) with
  | false =>
    refine r_aload_n dX0_exchanged_0 rfl ?_
    refine r_get bX0 0 (by decide) q246 dX0_exchanged_1 rfl rfl ?_
    refine r_iload_n dX0_exchanged_4 rfl ?_
    refine r_callV (as := [_]) okX1_isLooker bX1 rfl rfl q519 dX0_exchanged_5 (Nat.le_of_ble_eq_true rfl) rfl (Nat.le_of_ble_eq_true rfl) (Nat.le_of_ble_eq_true rfl) (Nat.le_of_ble_eq_true rfl) (pX1_isLooker rfl ?_)
    refine r_if_eq 31 dX0_exchanged_8 (by decide) (fun c_8 => ?_) (fun c_8 => ?_)
    · refine r_iconst 0 dX0_exchanged_31 (by decide) ?_
      refine r_istore_n dX0_exchanged_32 (Nat.le_of_ble_eq_true rfl) ?_
      refine r_iload_n dX0_exchanged_33 rfl ?_
      refine r_if_eq 46 dX0_exchanged_34 (by decide) (fun c_34 => ?_) (fun c_34 => ?_)
      · refine r_aload_n dX0_exchanged_46 rfl ?_
        refine r_bipush (-2) dX0_exchanged_47 (by decide) ?_
        refine r_callV (as := [_]) okX0_no bX0 rfl rfl q381 dX0_exchanged_49 (Nat.le_of_ble_eq_true rfl) rfl (Nat.le_of_ble_eq_true rfl) (Nat.le_of_ble_eq_true rfl) (Nat.le_of_ble_eq_true rfl) (pX0_no 2 (by decide) (by decide) ?_)
        exact r_iret dX0_exchanged_52 rfl (Nat.le_of_ble_eq_true rfl) (Nat.le_of_ble_eq_true rfl) (hbad g)
      · first | exact absurd rfl c_34 | (exfalso; simp_all [b2i_0])
    · refine r_aload_n dX0_exchanged_11 rfl ?_
      refine r_get bX0 0 (by decide) q246 dX0_exchanged_12 rfl rfl ?_
      refine r_iload_n dX0_exchanged_15 rfl ?_
      refine r_callV (as := [_]) okX1_isLooker bX1 rfl rfl q519 dX0_exchanged_16 (Nat.le_of_ble_eq_true rfl) rfl (Nat.le_of_ble_eq_true rfl) (Nat.le_of_ble_eq_true rfl) (Nat.le_of_ble_eq_true rfl) (pX1_isLooker rfl ?_)
      refine r_if_eq 31 dX0_exchanged_19 (by decide) (fun c_19 => ?_) (fun c_19 => ?_)
      · refine r_iconst 0 dX0_exchanged_31 (by decide) ?_
        refine r_istore_n dX0_exchanged_32 (Nat.le_of_ble_eq_true rfl) ?_
        refine r_iload_n dX0_exchanged_33 rfl ?_
        refine r_if_eq 46 dX0_exchanged_34 (by decide) (fun c_34 => ?_) (fun c_34 => ?_)
        · refine r_aload_n dX0_exchanged_46 rfl ?_
          refine r_bipush (-2) dX0_exchanged_47 (by decide) ?_
          refine r_callV (as := [_]) okX0_no bX0 rfl rfl q381 dX0_exchanged_49 (Nat.le_of_ble_eq_true rfl) rfl (Nat.le_of_ble_eq_true rfl) (Nat.le_of_ble_eq_true rfl) (Nat.le_of_ble_eq_true rfl) (pX0_no 2 (by decide) (by decide) ?_)
          exact r_iret dX0_exchanged_52 rfl (Nat.le_of_ble_eq_true rfl) (Nat.le_of_ble_eq_true rfl) (hbad g)
        · first | exact absurd rfl c_34 | (exfalso; simp_all [b2i_0])
      · refine r_iload_n dX0_exchanged_22 rfl ?_
        refine r_iload_n dX0_exchanged_23 rfl ?_
        refine r_icmp_eq 31 dX0_exchanged_24 (by decide) (fun c_24 => ?_) (fun c_24 => ?_)
        · refine r_iconst 0 dX0_exchanged_31 (by decide) ?_
          refine r_istore_n dX0_exchanged_32 (Nat.le_of_ble_eq_true rfl) ?_
          refine r_iload_n dX0_exchanged_33 rfl ?_
          refine r_if_eq 46 dX0_exchanged_34 (by decide) (fun c_34 => ?_) (fun c_34 => ?_)
          · refine r_aload_n dX0_exchanged_46 rfl ?_
            refine r_bipush (-2) dX0_exchanged_47 (by decide) ?_
            refine r_callV (as := [_]) okX0_no bX0 rfl rfl q381 dX0_exchanged_49 (Nat.le_of_ble_eq_true rfl) rfl (Nat.le_of_ble_eq_true rfl) (Nat.le_of_ble_eq_true rfl) (Nat.le_of_ble_eq_true rfl) (pX0_no 2 (by decide) (by decide) ?_)
            exact r_iret dX0_exchanged_52 rfl (Nat.le_of_ble_eq_true rfl) (Nat.le_of_ble_eq_true rfl) (hbad g)
          · first | exact absurd rfl c_34 | (exfalso; simp_all [b2i_0])
        · refine r_iconst 1 dX0_exchanged_27 (by decide) ?_
          refine r_goto 32 dX0_exchanged_28 (by decide) ?_
          refine r_istore_n dX0_exchanged_32 (Nat.le_of_ble_eq_true rfl) ?_
          refine r_iload_n dX0_exchanged_33 rfl ?_
          refine r_if_eq 46 dX0_exchanged_34 (by decide) (fun c_34 => ?_) (fun c_34 => ?_)
          · refine r_aload_n dX0_exchanged_46 rfl ?_
            refine r_bipush (-2) dX0_exchanged_47 (by decide) ?_
            refine r_callV (as := [_]) okX0_no bX0 rfl rfl q381 dX0_exchanged_49 (Nat.le_of_ble_eq_true rfl) rfl (Nat.le_of_ble_eq_true rfl) (Nat.le_of_ble_eq_true rfl) (Nat.le_of_ble_eq_true rfl) (pX0_no 2 (by decide) (by decide) ?_)
            exact r_iret dX0_exchanged_52 rfl (Nat.le_of_ble_eq_true rfl) (Nat.le_of_ble_eq_true rfl) (hbad g)
          · first | exact absurd rfl c_34 | (exfalso; simp_all [b2i_0])
  | true =>
    simp only [Bool.and_eq_true, bne_iff_ne] at g
    obtain ⟨g1, g2, g3⟩ := g
    obtain ⟨x, hx, rfl⟩ := inB_m g1 (by omega)
    obtain ⟨y, hy, rfl⟩ := inB_m g2 (by omega)
    refine r_aload_n dX0_exchanged_0 rfl ?_
    refine r_get bX0 0 (by decide) q246 dX0_exchanged_1 rfl rfl ?_
    refine r_iload_n dX0_exchanged_4 rfl ?_
    refine r_callV (as := [_]) okX1_isLooker bX1 rfl rfl q519 dX0_exchanged_5 (Nat.le_of_ble_eq_true rfl) rfl (Nat.le_of_ble_eq_true rfl) (Nat.le_of_ble_eq_true rfl) (Nat.le_of_ble_eq_true rfl) (pX1_isLooker rfl ?_)
    refine r_if_eq 31 dX0_exchanged_8 (by decide) (fun c_ => absurd c_ (b2i_n.mpr g1)) (fun _ => ?_)
    refine r_aload_n dX0_exchanged_11 rfl ?_
    refine r_get bX0 0 (by decide) q246 dX0_exchanged_12 rfl rfl ?_
    refine r_iload_n dX0_exchanged_15 rfl ?_
    refine r_callV (as := [_]) okX1_isLooker bX1 rfl rfl q519 dX0_exchanged_16 (Nat.le_of_ble_eq_true rfl) rfl (Nat.le_of_ble_eq_true rfl) (Nat.le_of_ble_eq_true rfl) (Nat.le_of_ble_eq_true rfl) (pX1_isLooker rfl ?_)
    refine r_if_eq 31 dX0_exchanged_19 (by decide) (fun c_ => absurd c_ (b2i_n.mpr g2)) (fun _ => ?_)
    refine r_iload_n dX0_exchanged_22 rfl ?_
    refine r_iload_n dX0_exchanged_23 rfl ?_
    refine r_icmp_eq 31 dX0_exchanged_24 (by decide) (fun c_ => absurd c_ (g3)) (fun _ => ?_)
    refine r_iconst 1 dX0_exchanged_27 (by decide) ?_
    refine r_goto 32 dX0_exchanged_28 (by decide) ?_
    refine r_istore_n dX0_exchanged_32 (Nat.le_of_ble_eq_true rfl) ?_
    refine r_iload_n dX0_exchanged_33 rfl ?_
    refine r_if_eq 46 dX0_exchanged_34 (by decide) (fun c_ => absurd c_ (by decide)) (fun _ => ?_)
    refine r_aload_n dX0_exchanged_37 rfl ?_
    refine r_iload_n dX0_exchanged_38 rfl ?_
    refine r_iload_n dX0_exchanged_39 rfl ?_
    refine r_callV (as := [_, _]) okX0_gladWith bX0 rfl rfl q1301 dX0_exchanged_40 (Nat.le_of_ble_eq_true rfl) rfl (Nat.le_of_ble_eq_true rfl) (Nat.le_of_ble_eq_true rfl) (Nat.le_of_ble_eq_true rfl) (pX0_gladWith hn hL hN hP hx hy (fun tP tA tK tC tS tH tL tN tE tZ eP eT eF ef eg ew => ?_))
    refine r_goto 52 dX0_exchanged_43 (by decide) ?_
    exact r_iret dX0_exchanged_52 rfl (Nat.le_of_ble_eq_true rfl) (Nat.le_of_ble_eq_true rfl) (hok x y hx hy (fun z => g3 (by rw [z])) rfl rfl _ _ _ _ _ _ _ _ _ _ _ _ _ _ _ _)
theorem pX0_bestPair (hn : n ≤ 8) (hL : LkI lc r3 nl kN ow n) (hN : ∀ j, n ≤ j → nl j = none) (hP : ThI th) (hQ : ∀ (tP tA tK tC tS tH : Nat → Int32) (tL : Nat → Option Nat) (tN tE tZ : Int32) (eP eT eF : Nat → Int32) (ef eg : Int32) (ew : Value), Q (some (.int (bpO kN ow lk ag n th n).1)) (r0, (xC (.ref 2) iv tP tL tA tK tC tS tH tN tE tZ tf mP mf eP eT eF ef eg ew rx gx wx hv tp td rf rc ic), (wC th pf nl ag lk co sh hs (nI n) ev se lc), r3)) : AMet mX0_bestPair 11 0 0 [.ref 1] (r0, (xC (.ref 2) iv tP tL tA tK tC tS tH tN tE tZ tf mP mf eP eT eF ef eg ew rx gx wx hv tp td rf rc ic), (wC th pf nl ag lk co sh hs (nI n) ev se lc), r3) Q := by
  refine AMet.ofRch rfl rfl (Nat.le_of_ble_eq_true rfl) ?_
  refine r_iconst (-1) dX0_bestPair_0 (by decide) ?_
  refine r_istore_n dX0_bestPair_1 (Nat.le_of_ble_eq_true rfl) ?_
  refine r_iconst (-1) dX0_bestPair_2 (by decide) ?_
  refine r_istore_n dX0_bestPair_3 (Nat.le_of_ble_eq_true rfl) ?_
  refine r_iconst 0 dX0_bestPair_4 (by decide) ?_
  refine r_istore_n dX0_bestPair_5 (Nat.le_of_ble_eq_true rfl) ?_
  refine loopUp (N := n) (P := fun k => ∀ (tP tA tK tC tS tH : Nat → Int32) (tL : Nat → Option Nat) (tN tE tZ : Int32) (eP eT eF : Nat → Int32) (ef eg : Int32) (ew : Value), Rch (mX0_bestPair, 11, 0, 0, oQ Q) 0 0 6 [some (.ref 1), some (.int (bpO kN ow lk ag n th k).1), some (.int (bpO kN ow lk ag n th k).2), some (.int (nI k)), none, none] [] (r0, (xC (.ref 2) iv tP tL tA tK tC tS tH tN tE tZ tf mP mf eP eT eF ef eg ew rx gx wx hv tp td rf rc ic), (wC th pf nl ag lk co sh hs (nI n) ev se lc), r3)) ?_ ?_ _ _ _ _ _ _ _ _ _ _ _ _ _ _ _ _
  · intro tP tA tK tC tS tH tL tN tE tZ eP eT eF ef eg ew
    refine r_iload_n dX0_bestPair_6 rfl ?_
    refine r_aload_n dX0_bestPair_7 rfl ?_
    refine r_get bX0 0 (by decide) q246 dX0_bestPair_8 rfl rfl ?_
    refine r_get bX1 7 (by decide) q179 dX0_bestPair_11 rfl rfl ?_
    refine r_icmp_ge 80 dX0_bestPair_14 (by decide) (fun _ => ?_) (fun c_ => absurd (Int32.le_refl _) c_)
    refine r_iload_n dX0_bestPair_80 rfl ?_
    exact r_iret dX0_bestPair_81 rfl (Nat.le_of_ble_eq_true rfl) (Nat.le_of_ble_eq_true rfl) (hQ _ _ _ _ _ _ _ _ _ _ _ _ _ _ _ _)
  · intro x hx ih tP tA tK tC tS tH tL tN tE tZ eP eT eF ef eg ew
    refine r_iload_n dX0_bestPair_6 rfl ?_
    refine r_aload_n dX0_bestPair_7 rfl ?_
    refine r_get bX0 0 (by decide) q246 dX0_bestPair_8 rfl rfl ?_
    refine r_get bX1 7 (by decide) q179 dX0_bestPair_11 rfl rfl ?_
    refine r_icmp_ge 80 dX0_bestPair_14 (by decide) (fun c_ => absurd c_ (geF hx (by omega))) (fun _ => ?_)
    refine r_iload_n dX0_bestPair_17 rfl ?_
    refine r_iconst 1 dX0_bestPair_18 (by decide) ?_
    refine r_iadd dX0_bestPair_19 ?_
    rw [nI_1]
    refine r_istore dX0_bestPair_20 (Nat.le_of_ble_eq_true rfl) ?_
    refine loopUp (N := n - (x + 1)) (P := fun k => ∀ (tP tA tK tC tS tH : Nat → Int32) (tL : Nat → Option Nat) (tN tE tZ : Int32) (eP eT eF : Nat → Int32) (ef eg : Int32) (ew : Value), Rch (mX0_bestPair, 11, 0, 0, oQ Q) 0 0 22 [some (.ref 1), some (.int (bpI kN ow lk ag n th x (bpO kN ow lk ag n th x) k).1), some (.int (bpI kN ow lk ag n th x (bpO kN ow lk ag n th x) k).2), some (.int (nI x)), some (.int (nI (x + 1 + k))), none] [] (r0, (xC (.ref 2) iv tP tL tA tK tC tS tH tN tE tZ tf mP mf eP eT eF ef eg ew rx gx wx hv tp td rf rc ic), (wC th pf nl ag lk co sh hs (nI n) ev se lc), r3)) ?_ ?_ _ _ _ _ _ _ _ _ _ _ _ _ _ _ _ _
    · intro tP tA tK tC tS tH tL tN tE tZ eP eT eF ef eg ew
      rw [show x + 1 + (n - (x + 1)) = n by omega]
      refine r_iload dX0_bestPair_22 rfl ?_
      refine r_aload_n dX0_bestPair_24 rfl ?_
      refine r_get bX0 0 (by decide) q246 dX0_bestPair_25 rfl rfl ?_
      refine r_get bX1 7 (by decide) q179 dX0_bestPair_28 rfl rfl ?_
      refine r_icmp_ge 74 dX0_bestPair_31 (by decide) (fun _ => ?_) (fun c_ => absurd (Int32.le_refl _) c_)
      refine r_iincV dX0_bestPair_74 rfl (Nat.le_of_ble_eq_true rfl) (incN _) ?_
      refine r_goto 6 dX0_bestPair_77 (by decide) ?_
      refine r_forget 4 ?_
      exact ih _ _ _ _ _ _ _ _ _ _ _ _ _ _ _ _
    · intro k hk2 ih2 tP tA tK tC tS tH tL tN tE tZ eP eT eF ef eg ew
      refine r_iload dX0_bestPair_22 rfl ?_
      refine r_aload_n dX0_bestPair_24 rfl ?_
      refine r_get bX0 0 (by decide) q246 dX0_bestPair_25 rfl rfl ?_
      refine r_get bX1 7 (by decide) q179 dX0_bestPair_28 rfl rfl ?_
      refine r_icmp_ge 74 dX0_bestPair_31 (by decide) (fun c_ => absurd c_ (geF (by omega) (by omega))) (fun _ => ?_)
      refine r_aload_n dX0_bestPair_34 rfl ?_
      refine r_iload_n dX0_bestPair_35 rfl ?_
      refine r_iload dX0_bestPair_36 rfl ?_
      refine r_callV (as := [_, _]) okX0_gladWith bX0 rfl rfl q1301 dX0_bestPair_38 (Nat.le_of_ble_eq_true rfl) rfl (Nat.le_of_ble_eq_true rfl) (Nat.le_of_ble_eq_true rfl) (Nat.le_of_ble_eq_true rfl) (pX0_gladWith hn hL hN hP hx (by omega) (fun tP tA tK tC tS tH tL tN tE tZ eP eT eF ef eg ew => ?_))
      refine r_istore dX0_bestPair_41 (Nat.le_of_ble_eq_true rfl) ?_
      refine r_iload dX0_bestPair_43 rfl ?_
      refine r_iload_n dX0_bestPair_45 rfl ?_
      refine r_icmp_le 59 dX0_bestPair_46 (by decide) (fun c_46 => ?_) (fun c_46 => ?_)
      · refine r_iload_n dX0_bestPair_59 rfl ?_
        refine r_istore_n dX0_bestPair_60 (Nat.le_of_ble_eq_true rfl) ?_
        refine r_iload_n dX0_bestPair_61 rfl ?_
        refine r_iload dX0_bestPair_62 rfl ?_
        refine r_mmax q1292 dX0_bestPair_64 (Nat.le_of_ble_eq_true rfl) (Nat.le_of_ble_eq_true rfl) (Nat.le_of_ble_eq_true rfl) ?_
        refine r_istore_n dX0_bestPair_67 (Nat.le_of_ble_eq_true rfl) ?_
        first | rw [mx_l c_46] | rw [mx_r c_46]
        refine r_iincV dX0_bestPair_68 rfl (Nat.le_of_ble_eq_true rfl) (incN _) ?_
        refine r_goto 22 dX0_bestPair_71 (by decide) ?_
        refine r_forget 5 ?_
        first | (rw [bpI, if_pos (Int32.not_le.mp c_46)] at ih2; exact ih2 _ _ _ _ _ _ _ _ _ _ _ _ _ _ _ _) | (rw [bpI, if_neg (fun z => Int32.not_le.mpr z c_46)] at ih2; exact ih2 _ _ _ _ _ _ _ _ _ _ _ _ _ _ _ _)
      · refine r_bipush 10 dX0_bestPair_49 (by decide) ?_
        refine r_iload_n dX0_bestPair_51 rfl ?_
        refine r_imul dX0_bestPair_52 ?_
        refine r_iload dX0_bestPair_53 rfl ?_
        refine r_iadd dX0_bestPair_55 ?_
        refine r_goto 60 dX0_bestPair_56 (by decide) ?_
        refine r_istore_n dX0_bestPair_60 (Nat.le_of_ble_eq_true rfl) ?_
        refine r_iload_n dX0_bestPair_61 rfl ?_
        refine r_iload dX0_bestPair_62 rfl ?_
        refine r_mmax q1292 dX0_bestPair_64 (Nat.le_of_ble_eq_true rfl) (Nat.le_of_ble_eq_true rfl) (Nat.le_of_ble_eq_true rfl) ?_
        refine r_istore_n dX0_bestPair_67 (Nat.le_of_ble_eq_true rfl) ?_
        first | rw [mx_l c_46] | rw [mx_r c_46]
        refine r_iincV dX0_bestPair_68 rfl (Nat.le_of_ble_eq_true rfl) (incN _) ?_
        refine r_goto 22 dX0_bestPair_71 (by decide) ?_
        refine r_forget 5 ?_
        first | (rw [bpI, if_pos (Int32.not_le.mp c_46)] at ih2; exact ih2 _ _ _ _ _ _ _ _ _ _ _ _ _ _ _ _) | (rw [bpI, if_neg (fun z => Int32.not_le.mpr z c_46)] at ih2; exact ih2 _ _ _ _ _ _ _ _ _ _ _ _ _ _ _ _)
theorem pX0_oldest {l : Int32} (hn : n ≤ 8) (hL : LkI lc r3 nl kN ow n) (hN : ∀ j, n ≤ j → nl j = none) (hP : ThI th) (hbad : inB l 0 (nI n - 1) = false → Q (some (.int (-2))) (r0, (xC (.ref 2) iv tP tL tA tK tC tS tH tN tE tZ tf mP mf eP eT eF ef eg ew rx gx wx hv tp td (upd rf 2 (rf 2 + 1)) rc ic), (wC th pf nl ag lk co sh hs (nI n) ev se lc), r3)) (hok : ∀ j, j < n → l = nI j → ∀ (tP tA tK tC tS tH : Nat → Int32) (tL : Nat → Option Nat) (tN tE tZ : Int32) (eP eT eF : Nat → Int32) (ef eg : Int32) (ew : Value), Q (some (.int (olF kN ow lk ag n th j))) (r0, (xC (.ref 2) iv tP tL tA tK tC tS tH tN tE tZ tf mP mf eP eT eF ef eg ew rx gx wx hv tp td rf rc ic), (wC th pf nl ag lk co sh hs (nI n) ev se lc), r3)) : AMet mX0_oldest 10 0 0 [.ref 1, .int l] (r0, (xC (.ref 2) iv tP tL tA tK tC tS tH tN tE tZ tf mP mf eP eT eF ef eg ew rx gx wx hv tp td rf rc ic), (wC th pf nl ag lk co sh hs (nI n) ev se lc), r3) Q := by
  refine AMet.ofRch rfl rfl (Nat.le_of_ble_eq_true rfl) ?_
  have hgo : ∀ j, j < n → l = nI j → Rch (mX0_oldest, 10, 0, 0, oQ Q) 0 0 18 [some (.ref 1), some (.int l), none, none] [] (r0, (xC (.ref 2) iv tP tL tA tK tC tS tH tN tE tZ tf mP mf eP eT eF ef eg ew rx gx wx hv tp td rf rc ic), (wC th pf nl ag lk co sh hs (nI n) ev se lc), r3) := by
    intro j hj e
    subst e
    refine r_aload_n dX0_oldest_18 rfl ?_
    refine r_callV (as := []) okX0_tried bX0 rfl rfl q1305 dX0_oldest_19 (Nat.le_of_ble_eq_true rfl) rfl (Nat.le_of_ble_eq_true rfl) (Nat.le_of_ble_eq_true rfl) (Nat.le_of_ble_eq_true rfl) (pX0_tried hn hL hN hP ?_)
    refine r_astore_n dX0_oldest_22 (Nat.le_of_ble_eq_true rfl) ?_
    refine r_bipush 99 dX0_oldest_23 (by decide) ?_
    refine r_istore_n dX0_oldest_25 (Nat.le_of_ble_eq_true rfl) ?_
    have main : ∀ k, k ≤ 100 → olF kN ow lk ag n th j = lstI (fun g => glF kN ow lk (upd ag j (nI g)) n th j (allS n)) k → ∀ (z : Int32) (eP eT eF : Nat → Int32) (ef eg : Int32) (ew : Value), Rch (mX0_oldest, 10, 0, 0, oQ Q) 0 0 26 [some (.ref 1), some (.int (nI j)), some (.ref 9), some (.int (nI k - 1))] [] (r0, (xC (.ref 2) iv (th) (nl) (upd ag j z) (lk) (co) (sh) (hs) (nI n) (ev) (se) tf mP mf eP eT eF ef eg ew rx gx wx hv tp td rf rc ic), (wC th pf nl ag lk co sh hs (nI n) ev se lc), r3) := by
      intro k
      induction k with
      | zero =>
        intro _ e z eP eT eF ef eg ew
        refine r_iload_n dX0_oldest_26 rfl ?_
        refine r_if_lt 67 dX0_oldest_27 (by decide) (fun _ => ?_) (fun c_ => absurd (by decide) c_)
        refine r_iconst (-1) dX0_oldest_67 (by decide) ?_
        exact r_iret dX0_oldest_68 rfl (Nat.le_of_ble_eq_true rfl) (Nat.le_of_ble_eq_true rfl) (qi e.symm (hok j hj rfl _ _ _ _ _ _ _ _ _ _ _ _ _ _ _ _))
      | succ k ih =>
        intro hk e z eP eT eF ef eg ew
        rw [nI_pred]
        refine r_iload_n dX0_oldest_26 rfl ?_
        refine r_if_lt 67 dX0_oldest_27 (by decide) (fun c_ => absurd c_ (nI_pos (by omega))) (fun _ => ?_)
        refine r_aload_n dX0_oldest_30 rfl ?_
        refine r_get bX1 2 (by decide) q165 dX0_oldest_31 rfl rfl ?_
        refine r_iload_n dX0_oldest_34 rfl ?_
        refine r_iload_n dX0_oldest_35 rfl ?_
        refine r_iastN dX0_oldest_36 rfl (by omega) (Nat.le_of_ble_eq_true rfl) ?_
        simp only [upd_upd]
        refine r_aload_n dX0_oldest_37 rfl ?_
        refine r_get bX0 4 (by decide) q250 dX0_oldest_38 rfl rfl ?_
        refine r_aload_n dX0_oldest_41 rfl ?_
        refine r_aload_n dX0_oldest_42 rfl ?_
        refine r_callV (as := []) okX1_everybody bX1 rfl rfl q1223 dX0_oldest_43 (Nat.le_of_ble_eq_true rfl) rfl (Nat.le_of_ble_eq_true rfl) (Nat.le_of_ble_eq_true rfl) (Nat.le_of_ble_eq_true rfl) (pX1_everybody rfl ?_)
        rw [shl1m hn]
        refine r_callV (as := [_, _]) okX3_of bX3 rfl rfl q547 dX0_oldest_46 (Nat.le_of_ble_eq_true rfl) rfl (Nat.le_of_ble_eq_true rfl) (Nat.le_of_ble_eq_true rfl) (Nat.le_of_ble_eq_true rfl) (pX3_of_t (tL := nl) (tP := th) (tK := lk) (tA := upd ag j (nI k)) hn hL hP (fun ef2 => ?_))
        refine r_get bX3 4 (by decide) q223 dX0_oldest_49 rfl rfl ?_
        refine r_iload_n dX0_oldest_52 rfl ?_
        refine r_callS (as := [_, _]) okX0_has q974 dX0_oldest_53 (Nat.le_of_ble_eq_true rfl) rfl (Nat.le_of_ble_eq_true rfl) (Nat.le_of_ble_eq_true rfl) (Nat.le_of_ble_eq_true rfl) (pX0_has ?_)
        rw [bits_has n (by omega) hj, has_all hn hj]
        refine r_if_eq 61 dX0_oldest_56 (by decide) (fun c_56 => ?_) (fun c_56 => ?_)
        · refine r_iincV dX0_oldest_61 rfl (Nat.le_of_ble_eq_true rfl) (decS _) ?_
          refine r_goto 26 dX0_oldest_64 (by decide) ?_
          refine ih (by omega) (e.trans ?_) _ _ _ _ _ _ _
          simp only [lstI]
          have q1 : glF kN ow lk (upd ag j (nI k)) n th j (allS n) = false := b2i_0.mp c_56
          rw [if_neg (by rw [q1]; decide)]
        · refine r_iload_n dX0_oldest_59 rfl ?_
          exact r_iret dX0_oldest_60 rfl (Nat.le_of_ble_eq_true rfl) (Nat.le_of_ble_eq_true rfl) (qi (by have q : glF kN ow lk (upd ag j (nI k)) n th j (allS n) = true := b2i_n.mp c_56; rw [e]; simp only [lstI]; rw [if_pos q]) (hok j hj rfl _ _ _ _ _ _ _ _ _ _ _ _ _ _ _ _))
    have h4 := main 100 (Nat.le_refl _) rfl (ag j) eP eT eF ef eg ew
    rw [upd_id] at h4
    exact h4
  refine r_aload_n dX0_oldest_0 rfl ?_
  refine r_get bX0 0 (by decide) q246 dX0_oldest_1 rfl rfl ?_
  refine r_iload_n dX0_oldest_4 rfl ?_
  refine r_callV (as := [_]) okX1_isLooker bX1 rfl rfl q519 dX0_oldest_5 (Nat.le_of_ble_eq_true rfl) rfl (Nat.le_of_ble_eq_true rfl) (Nat.le_of_ble_eq_true rfl) (Nat.le_of_ble_eq_true rfl) (pX1_isLooker rfl ?_)
  refine r_if_ne 18 dX0_oldest_8 (by decide) (fun c_8 => ?_) (fun c_8 => ?_)
  · obtain ⟨j, hj, e⟩ := inB_m (b2i_n.mp c_8) (by omega)
    exact hgo j hj e
  · refine r_aload_n dX0_oldest_11 rfl ?_
    refine r_bipush (-2) dX0_oldest_12 (by decide) ?_
    refine r_callV (as := [_]) okX0_no bX0 rfl rfl q381 dX0_oldest_14 (Nat.le_of_ble_eq_true rfl) rfl (Nat.le_of_ble_eq_true rfl) (Nat.le_of_ble_eq_true rfl) (Nat.le_of_ble_eq_true rfl) (pX0_no 2 (by decide) (by decide) ?_)
    exact r_iret dX0_oldest_17 rfl (Nat.le_of_ble_eq_true rfl) (Nat.le_of_ble_eq_true rfl) (hbad (b2i_0.mp c_8))
theorem pX0_twice {s t : Int32} (hn : n ≤ 8) (hL : LkI lc r3 nl kN ow n) (hP : ThI th) (hbad : (inB s 0 (allS n) && inB t 0 (allS n)) = false → Q (some (.int (-2))) (r0, (xC (.ref 2) iv tP tL tA tK tC tS tH tN tE tZ tf mP mf eP eT eF ef eg ew rx gx wx hv tp td (upd rf 2 (rf 2 + 1)) rc ic), (wC th pf nl ag lk co sh hs (nI n) ev se lc), r3)) (hok : inB s 0 (allS n) = true → inB t 0 (allS n) = true → ∀ (mP : Nat → Int32), ∀ (eP eT eF : Nat → Int32) (ef eg : Int32) (ew : Value), Q (some (.int (twF kN ow lk ag n th s t))) (r0, (xC (.ref 2) iv tP tL tA tK tC tS tH tN tE tZ tf mP mf eP eT eF ef eg ew rx gx wx hv tp td rf rc ic), (wC th pf nl ag lk co sh hs (nI n) ev se lc), r3)) : AMet mX0_twice 10 0 0 [.ref 1, .int s, .int t] (r0, (xC (.ref 2) iv tP tL tA tK tC tS tH tN tE tZ tf mP mf eP eT eF ef eg ew rx gx wx hv tp td rf rc ic), (wC th pf nl ag lk co sh hs (nI n) ev se lc), r3) Q := by
  refine AMet.ofRch rfl rfl (Nat.le_of_ble_eq_true rfl) ?_
  have ho : ∀ j, j < n → ow j ≠ -1 := by
    intro j hj
    obtain ⟨-, ⟨w, hw, e⟩, -⟩ := hL j hj
    rw [e]; exact nI_m1 (by omega)
  refine r_aload_n dX0_twice_0 rfl ?_
  refine r_iload_n dX0_twice_1 rfl ?_
  refine r_callV (as := [_]) okX0_isSet bX0 rfl rfl q1219 dX0_twice_2 (Nat.le_of_ble_eq_true rfl) rfl (Nat.le_of_ble_eq_true rfl) (Nat.le_of_ble_eq_true rfl) (Nat.le_of_ble_eq_true rfl) (pX0_isSet hn ?_)
  refine r_if_eq 16 dX0_twice_5 (by decide) (fun c_5 => ?_) (fun c_5 => ?_)
  · refine r_aload_n dX0_twice_16 rfl ?_
    refine r_bipush (-2) dX0_twice_17 (by decide) ?_
    refine r_callV (as := [_]) okX0_no bX0 rfl rfl q381 dX0_twice_19 (Nat.le_of_ble_eq_true rfl) rfl (Nat.le_of_ble_eq_true rfl) (Nat.le_of_ble_eq_true rfl) (Nat.le_of_ble_eq_true rfl) (pX0_no 2 (by decide) (by decide) ?_)
    exact r_iret dX0_twice_22 rfl (Nat.le_of_ble_eq_true rfl) (Nat.le_of_ble_eq_true rfl) (hbad (by simp_all [b2i_0]))
  · refine r_aload_n dX0_twice_8 rfl ?_
    refine r_iload_n dX0_twice_9 rfl ?_
    refine r_callV (as := [_]) okX0_isSet bX0 rfl rfl q1219 dX0_twice_10 (Nat.le_of_ble_eq_true rfl) rfl (Nat.le_of_ble_eq_true rfl) (Nat.le_of_ble_eq_true rfl) (Nat.le_of_ble_eq_true rfl) (pX0_isSet hn ?_)
    refine r_if_ne 23 dX0_twice_13 (by decide) (fun c_13 => ?_) (fun c_13 => ?_)
    · refine r_aload_n dX0_twice_23 rfl ?_
      refine r_get bX0 3 (by decide) q249 dX0_twice_24 rfl rfl ?_
      refine r_aload_n dX0_twice_27 rfl ?_
      refine r_get bX0 4 (by decide) q250 dX0_twice_28 rfl rfl ?_
      refine r_aload_n dX0_twice_31 rfl ?_
      refine r_get bX0 0 (by decide) q246 dX0_twice_32 rfl rfl ?_
      refine r_iload_n dX0_twice_35 rfl ?_
      refine r_callV (as := [_, _]) okX3_of bX3 rfl rfl q547 dX0_twice_36 (Nat.le_of_ble_eq_true rfl) rfl (Nat.le_of_ble_eq_true rfl) (Nat.le_of_ble_eq_true rfl) (Nat.le_of_ble_eq_true rfl) (pX3_of_n hn hL hP (fun ef2 => ?_))
      refine r_get bX3 0 (by decide) q216 dX0_twice_39 rfl rfl ?_
      refine r_callV (as := [_]) okX2_becomes bX2 rfl rfl q1322 dX0_twice_42 (Nat.le_of_ble_eq_true rfl) rfl (Nat.le_of_ble_eq_true rfl) (Nat.le_of_ble_eq_true rfl) (Nat.le_of_ble_eq_true rfl) (pX2_becomes (a := 81) (s := 89) (b := 105) rfl rfl rfl rfl ?_)
      refine r_pop dX0_twice_45 rfl ?_
      refine r_aload_n dX0_twice_46 rfl ?_
      refine r_get bX0 4 (by decide) q250 dX0_twice_47 rfl rfl ?_
      refine r_aload_n dX0_twice_50 rfl ?_
      refine r_get bX0 0 (by decide) q246 dX0_twice_51 rfl rfl ?_
      refine r_aload_n dX0_twice_54 rfl ?_
      refine r_get bX0 3 (by decide) q249 dX0_twice_55 rfl rfl ?_
      refine r_iload_n dX0_twice_58 rfl ?_
      refine r_callV (as := [_, _, _]) okX3_from bX3 rfl rfl q1323 dX0_twice_59 (Nat.le_of_ble_eq_true rfl) rfl (Nat.le_of_ble_eq_true rfl) (Nat.le_of_ble_eq_true rfl) (Nat.le_of_ble_eq_true rfl) (pX3_from_m (mP := (evR kN ow lk ag n th s).1) hn hL (ev_ThI ho hP) (fun ef3 => ?_))
      refine r_callV (as := []) okX3_left bX3 rfl rfl q1227 dX0_twice_62 (Nat.le_of_ble_eq_true rfl) rfl (Nat.le_of_ble_eq_true rfl) (Nat.le_of_ble_eq_true rfl) (Nat.le_of_ble_eq_true rfl) (pX3_left rfl rfl rfl ?_)
      exact r_iret dX0_twice_65 rfl (Nat.le_of_ble_eq_true rfl) (Nat.le_of_ble_eq_true rfl) (hok (b2i_n.mp c_5) (b2i_n.mp c_13) _ _ _ _ _ _ _)
    · refine r_aload_n dX0_twice_16 rfl ?_
      refine r_bipush (-2) dX0_twice_17 (by decide) ?_
      refine r_callV (as := [_]) okX0_no bX0 rfl rfl q381 dX0_twice_19 (Nat.le_of_ble_eq_true rfl) rfl (Nat.le_of_ble_eq_true rfl) (Nat.le_of_ble_eq_true rfl) (Nat.le_of_ble_eq_true rfl) (pX0_no 2 (by decide) (by decide) ?_)
      exact r_iret dX0_twice_22 rfl (Nat.le_of_ble_eq_true rfl) (Nat.le_of_ble_eq_true rfl) (hbad (by simp_all [b2i_0]))
theorem pX0_unlike {s : Int32} (hn : n ≤ 8) (hL : LkI lc r3 nl kN ow n) (hP : ThI th) (hbad : inB s 0 (allS n) = false → Q (some (.int (-2))) (r0, (xC (.ref 2) iv tP tL tA tK tC tS tH tN tE tZ tf mP mf eP eT eF ef eg ew rx gx wx hv tp td (upd rf 2 (rf 2 + 1)) rc ic), (wC th pf nl ag lk co sh hs (nI n) ev se lc), r3)) (hok : inB s 0 (allS n) = true → ∀ (eP eT eF : Nat → Int32) (ef eg : Int32) (ew : Value), Q (some (.int (nI (cntI (fun z => decide (0 < cnF (evR kN ow lk ag n th s).1 (nI z))) 8)))) (r0, (xC (.ref 2) iv tP tL tA tK tC tS tH tN tE tZ tf mP mf eP eT eF ef eg ew rx gx wx hv tp td rf rc ic), (wC th pf nl ag lk co sh hs (nI n) ev se lc), r3)) : AMet mX0_unlike 10 0 0 [.ref 1, .int s] (r0, (xC (.ref 2) iv tP tL tA tK tC tS tH tN tE tZ tf mP mf eP eT eF ef eg ew rx gx wx hv tp td rf rc ic), (wC th pf nl ag lk co sh hs (nI n) ev se lc), r3) Q := by
  refine AMet.ofRch rfl rfl (Nat.le_of_ble_eq_true rfl) ?_
  have hgo : inB s 0 (allS n) = true → Rch (mX0_unlike, 10, 0, 0, oQ Q) 0 0 15 [some (.ref 1), some (.int s), none, none] [] (r0, (xC (.ref 2) iv tP tL tA tK tC tS tH tN tE tZ tf mP mf eP eT eF ef eg ew rx gx wx hv tp td rf rc ic), (wC th pf nl ag lk co sh hs (nI n) ev se lc), r3) := by
    intro g
    refine r_aload_n dX0_unlike_15 rfl ?_
    refine r_get bX0 4 (by decide) q250 dX0_unlike_16 rfl rfl ?_
    refine r_aload_n dX0_unlike_19 rfl ?_
    refine r_get bX0 0 (by decide) q246 dX0_unlike_20 rfl rfl ?_
    refine r_iload_n dX0_unlike_23 rfl ?_
    refine r_callV (as := [_, _]) okX3_of bX3 rfl rfl q547 dX0_unlike_24 (Nat.le_of_ble_eq_true rfl) rfl (Nat.le_of_ble_eq_true rfl) (Nat.le_of_ble_eq_true rfl) (Nat.le_of_ble_eq_true rfl) (pX3_of_n hn hL hP (fun ef2 => ?_))
    refine r_pop dX0_unlike_27 rfl ?_
    refine r_iconst 0 dX0_unlike_28 (by decide) ?_
    refine r_istore_n dX0_unlike_29 (Nat.le_of_ble_eq_true rfl) ?_
    refine r_iconst 0 dX0_unlike_30 (by decide) ?_
    refine r_istore_n dX0_unlike_31 (Nat.le_of_ble_eq_true rfl) ?_
    refine loopUp (N := 8) (P := fun k => Rch (mX0_unlike, 10, 0, 0, oQ Q) 0 0 32 [some (.ref 1), some (.int s), some (.int (nI (cntI (fun z => decide (0 < cnF (evR kN ow lk ag n th s).1 (nI z))) k))), some (.int (nI k))] [] (r0, (xC (.ref 2) iv tP tL tA tK tC tS tH tN tE tZ tf mP mf ((evR kN ow lk ag n th s).1) ((evR kN ow lk ag n th s).2.1) ((evR kN ow lk ag n th s).2.2) (ef2) (bitsI (fun l => hasB s (nI l) && gladB th ((evR kN ow lk ag n th s).2.1 l) (ow l)) n) (.ref 2) rx gx wx hv tp td rf rc ic), (wC th pf nl ag lk co sh hs (nI n) ev se lc), r3)) ?_ ?_
    · refine r_iload_n dX0_unlike_32 rfl ?_
      refine r_bipush 8 dX0_unlike_33 (by decide) ?_
      refine r_icmp_ge 66 dX0_unlike_35 (by decide) (fun _ => ?_) (fun c_ => absurd (geT 8) c_)
      refine r_iload_n dX0_unlike_66 rfl ?_
      exact r_iret dX0_unlike_67 rfl (Nat.le_of_ble_eq_true rfl) (Nat.le_of_ble_eq_true rfl) (hok g _ _ _ _ _ _)
    · intro k hk ih
      refine r_iload_n dX0_unlike_32 rfl ?_
      refine r_bipush 8 dX0_unlike_33 (by decide) ?_
      refine r_icmp_ge 66 dX0_unlike_35 (by decide) (fun c_ => absurd c_ (geF hk (by decide))) (fun _ => ?_)
      refine r_iload_n dX0_unlike_38 rfl ?_
      refine r_aload_n dX0_unlike_39 rfl ?_
      refine r_get bX0 4 (by decide) q250 dX0_unlike_40 rfl rfl ?_
      refine r_get bX3 0 (by decide) q216 dX0_unlike_43 rfl rfl ?_
      refine r_iload_n dX0_unlike_46 rfl ?_
      refine r_callV (as := [_]) okX2_many bX2 rfl rfl q1328 dX0_unlike_47 (Nat.le_of_ble_eq_true rfl) rfl (Nat.le_of_ble_eq_true rfl) (Nat.le_of_ble_eq_true rfl) (Nat.le_of_ble_eq_true rfl) (pX2_many rfl rfl ?_)
      refine r_if_le 57 dX0_unlike_50 (by decide) (fun c_50 => ?_) (fun c_50 => ?_)
      · refine r_iconst 0 dX0_unlike_57 (by decide) ?_
        refine r_iadd dX0_unlike_58 ?_
        first | rw [nI_1] | rw [Int32.add_zero]
        refine r_istore_n dX0_unlike_59 (Nat.le_of_ble_eq_true rfl) ?_
        refine r_iincV dX0_unlike_60 rfl (Nat.le_of_ble_eq_true rfl) (incN _) ?_
        refine r_goto 32 dX0_unlike_63 (by decide) ?_
        first | (have q1 : decide (0 < cnF (evR kN ow lk ag n th s).1 (nI k)) = true := decide_eq_true (Int32.not_le.mp c_50); simp only [cntI, q1, if_true] at ih; exact ih) | (have q1 : decide (0 < cnF (evR kN ow lk ag n th s).1 (nI k)) = false := decide_eq_false (fun z => Int32.not_le.mpr z c_50); simp only [cntI, q1, Bool.false_eq_true, if_false, Nat.add_zero] at ih; exact ih)
      · refine r_iconst 1 dX0_unlike_53 (by decide) ?_
        refine r_goto 58 dX0_unlike_54 (by decide) ?_
        refine r_iadd dX0_unlike_58 ?_
        first | rw [nI_1] | rw [Int32.add_zero]
        refine r_istore_n dX0_unlike_59 (Nat.le_of_ble_eq_true rfl) ?_
        refine r_iincV dX0_unlike_60 rfl (Nat.le_of_ble_eq_true rfl) (incN _) ?_
        refine r_goto 32 dX0_unlike_63 (by decide) ?_
        first | (have q1 : decide (0 < cnF (evR kN ow lk ag n th s).1 (nI k)) = true := decide_eq_true (Int32.not_le.mp c_50); simp only [cntI, q1, if_true] at ih; exact ih) | (have q1 : decide (0 < cnF (evR kN ow lk ag n th s).1 (nI k)) = false := decide_eq_false (fun z => Int32.not_le.mpr z c_50); simp only [cntI, q1, Bool.false_eq_true, if_false, Nat.add_zero] at ih; exact ih)
  refine r_aload_n dX0_unlike_0 rfl ?_
  refine r_iload_n dX0_unlike_1 rfl ?_
  refine r_callV (as := [_]) okX0_isSet bX0 rfl rfl q1219 dX0_unlike_2 (Nat.le_of_ble_eq_true rfl) rfl (Nat.le_of_ble_eq_true rfl) (Nat.le_of_ble_eq_true rfl) (Nat.le_of_ble_eq_true rfl) (pX0_isSet hn ?_)
  refine r_if_ne 15 dX0_unlike_5 (by decide) (fun c_5 => ?_) (fun c_5 => ?_)
  · exact hgo (b2i_n.mp c_5)
  · refine r_aload_n dX0_unlike_8 rfl ?_
    refine r_bipush (-2) dX0_unlike_9 (by decide) ?_
    refine r_callV (as := [_]) okX0_no bX0 rfl rfl q381 dX0_unlike_11 (Nat.le_of_ble_eq_true rfl) rfl (Nat.le_of_ble_eq_true rfl) (Nat.le_of_ble_eq_true rfl) (Nat.le_of_ble_eq_true rfl) (pX0_no 2 (by decide) (by decide) ?_)
    exact r_iret dX0_unlike_14 rfl (Nat.le_of_ble_eq_true rfl) (Nat.le_of_ble_eq_true rfl) (hbad (b2i_0.mp c_5))
end XX
