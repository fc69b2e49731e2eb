set_option maxRecDepth 100000
/-! the component: odds, sorts, ranks, who it was -/
theorem wa_congr {co : Nat → Int32} {s : Int32} {c d : Nat → Bool} : ∀ n, (∀ l, l < n → c l = d l) → waF co s c n = waF co s d n
  | 0, _ => rfl
  | n + 1, h => by
    simp only [waF]
    rw [h n (by omega), wa_congr n (fun l hl => h l (by omega))]
theorem al_congr {c d : Nat → Bool} : ∀ n, (∀ l, l < n → c l = d l) → alF c n = alF d n
  | 0, _ => rfl
  | n + 1, h => by
    simp only [alF]
    rw [h n (by omega), al_congr n (fun l hl => h l (by omega))]
theorem al_skip {j : Nat} : ∀ n, j < n → n < 2 ^ 31 → alF (fun i => nI i == nI j) n = alF (fun _ => false) (n - 1)
  | 0, h, _ => by omega
  | n + 1, h, hn => by
    simp only [alF]
    by_cases e : n = j
    · subst e
      rw [if_pos (by simp), Nat.add_sub_cancel]
      refine al_congr n (fun l hl => ?_)
      exact beq_eq_false_iff_ne.mpr (fun z => by have := (nI_eq (by omega) (by omega)).mp z; omega)
    · rw [if_neg (by simp; exact fun z => e ((nI_eq (by omega) (by omega)).mp z)), al_skip n (by omega) (by omega), Nat.add_sub_cancel]
      have e2 : n = (n - 1) + 1 := by omega
      conv => rhs; rw [e2]
      simp only [alF, Bool.false_eq_true, if_false]
theorem su_congr {c d : Nat → Bool} {v w : Nat → Int64} : ∀ n, (∀ k, k < n → c k = d k ∧ v k = w k) → suF c v n = suF d w n
  | 0, _ => rfl
  | n + 1, h => by
    simp only [suF]
    rw [(h n (by omega)).1, (h n (by omega)).2, su_congr n (fun k hk => h k (by omega))]
section XX
variable {iv : Value} {tP : Nat → Int32} {tL : Nat → Option Nat} {tA tK tC tS tH : Nat → Int32} {tN tE tZ tf : Int32} {mP : Nat → Int32} {mf : Int32} {eP eT eF : Nat → Int32} {ef eg : Int32} {ew : Value} {rx gx wx : Nat → Int32} {hv : Nat → Value} {tp : Nat → Int32} {td : Int32} {rf : Nat → Int32} {rc ic : Nat → AC} {th : Nat → Int32} {pf : Int32} {nl : Nat → Option Nat} {ag lk co sh hs : Nat → Int32} {my ev se : Int32} {lc : Nat → AC} {r0 r3 : List AC} {Q : Option Value → AHp → Prop} {n : Nat} {kN : Nat → Nat} {ow : Nat → Int32}
theorem pX0_ways {s c : Int32} (hn : n ≤ 8) (hQ : Q (some (.long (waF co s (fun l => !hasB c (nI l)) n))) (r0, (xC (.ref 2) iv tP tL tA tK tC tS tH tN tE tZ tf mP mf eP eT eF ef eg ew rx gx wx hv tp td rf rc ic), (wC th pf nl ag lk co sh hs (nI n) ev se lc), r3)) : AMet mX0_ways 2 0 0 [.ref 1, .int s, .int c] (r0, (xC (.ref 2) iv tP tL tA tK tC tS tH tN tE tZ tf mP mf eP eT eF ef eg ew rx gx wx hv tp td rf rc ic), (wC th pf nl ag lk co sh hs (nI n) ev se lc), r3) Q := by
  refine AMet.ofRch rfl rfl (Nat.le_of_ble_eq_true rfl) ?_
  refine r_lconst 1 dX0_ways_0 (by decide) ?_
  refine r_lstore_n dX0_ways_1 (Nat.le_of_ble_eq_true rfl) ?_
  refine r_iconst 0 dX0_ways_2 (by decide) ?_
  refine r_istore dX0_ways_3 (Nat.le_of_ble_eq_true rfl) ?_
  refine loopUp (N := n) (P := fun k => Rch (mX0_ways, 2, 0, 0, oQ Q) 0 0 5 [some (.ref 1), some (.int s), some (.int c), some (.long (waF co s (fun l => !hasB c (nI l)) k)), none, some (.int (nI k))] [] (r0, (xC (.ref 2) iv tP tL tA tK tC tS tH tN tE tZ tf mP mf eP eT eF ef eg ew rx gx wx hv tp td rf rc ic), (wC th pf nl ag lk co sh hs (nI n) ev se lc), r3)) ?_ ?_
  · refine r_iload dX0_ways_5 rfl ?_
    refine r_aload_n dX0_ways_7 rfl ?_
    refine r_get bX0 0 (by decide) q246 dX0_ways_8 rfl rfl ?_
    refine r_get bX1 7 (by decide) q179 dX0_ways_11 rfl rfl ?_
    refine r_icmp_ge 72 dX0_ways_14 (by decide) (fun _ => ?_) (fun c_ => absurd (Int32.le_refl _) c_)
    refine r_lload_n dX0_ways_72 rfl ?_
    exact r_lret dX0_ways_73 rfl (Nat.le_of_ble_eq_true rfl) (Nat.le_of_ble_eq_true rfl) (hQ)
  · intro k hk2 ih
    refine r_iload dX0_ways_5 rfl ?_
    refine r_aload_n dX0_ways_7 rfl ?_
    refine r_get bX0 0 (by decide) q246 dX0_ways_8 rfl rfl ?_
    refine r_get bX1 7 (by decide) q179 dX0_ways_11 rfl rfl ?_
    refine r_icmp_ge 72 dX0_ways_14 (by decide) (fun c_ => absurd c_ (geF hk2 (by omega))) (fun _ => ?_)
    refine r_iload_n dX0_ways_17 rfl ?_
    refine r_iload dX0_ways_18 rfl ?_
    refine r_callS (as := [_, _]) okX0_has q974 dX0_ways_20 (Nat.le_of_ble_eq_true rfl) rfl (Nat.le_of_ble_eq_true rfl) (Nat.le_of_ble_eq_true rfl) (Nat.le_of_ble_eq_true rfl) (pX0_has ?_)
    refine r_if_eq 66 dX0_ways_23 (by decide) (fun c_23 => ?_) (fun c_23 => ?_)
    · refine r_iincV dX0_ways_66 rfl (Nat.le_of_ble_eq_true rfl) (incN _) ?_
      refine r_goto 5 dX0_ways_69 (by decide) ?_
      first | (have q1 := b2i_0.mp c_23; simp only [waF, q1, Bool.not_false, if_true] at ih; exact ih) | (have q1 := b2i_n.mp c_23; have q2 := b2i_0.mp c_33; simp only [waF, q1, q2, Bool.not_true, Bool.false_eq_true, if_false] at ih; exact ih) | (have q1 := b2i_n.mp c_23; have q2 := b2i_n.mp c_33; simp only [waF, q1, q2, Bool.not_true, Bool.false_eq_true, if_false, if_true] at ih; exact ih)
    · refine r_lload_n dX0_ways_26 rfl ?_
      refine r_iload_n dX0_ways_27 rfl ?_
      refine r_iload dX0_ways_28 rfl ?_
      refine r_callS (as := [_, _]) okX0_has q974 dX0_ways_30 (Nat.le_of_ble_eq_true rfl) rfl (Nat.le_of_ble_eq_true rfl) (Nat.le_of_ble_eq_true rfl) (Nat.le_of_ble_eq_true rfl) (pX0_has ?_)
      refine r_if_eq 50 dX0_ways_33 (by decide) (fun c_33 => ?_) (fun c_33 => ?_)
      · refine r_bipush 12 dX0_ways_50 (by decide) ?_
        refine r_aload_n dX0_ways_52 rfl ?_
        refine r_get bX0 0 (by decide) q246 dX0_ways_53 rfl rfl ?_
        refine r_get bX1 4 (by decide) q171 dX0_ways_56 rfl rfl ?_
        refine r_iload dX0_ways_59 rfl ?_
        refine r_ialdN dX0_ways_61 rfl (by omega) (Nat.le_of_ble_eq_true rfl) ?_
        refine r_isub dX0_ways_62 ?_
        refine r_i2l dX0_ways_63 ?_
        refine r_lmul dX0_ways_64 ?_
        refine r_lstore_n dX0_ways_65 (Nat.le_of_ble_eq_true rfl) ?_
        refine r_iincV dX0_ways_66 rfl (Nat.le_of_ble_eq_true rfl) (incN _) ?_
        refine r_goto 5 dX0_ways_69 (by decide) ?_
        first | (have q1 := b2i_0.mp c_23; simp only [waF, q1, Bool.not_false, if_true] at ih; exact ih) | (have q1 := b2i_n.mp c_23; have q2 := b2i_0.mp c_33; simp only [waF, q1, q2, Bool.not_true, Bool.false_eq_true, if_false] at ih; exact ih) | (have q1 := b2i_n.mp c_23; have q2 := b2i_n.mp c_33; simp only [waF, q1, q2, Bool.not_true, Bool.false_eq_true, if_false, if_true] at ih; exact ih)
      · refine r_aload_n dX0_ways_36 rfl ?_
        refine r_get bX0 0 (by decide) q246 dX0_ways_37 rfl rfl ?_
        refine r_get bX1 4 (by decide) q171 dX0_ways_40 rfl rfl ?_
        refine r_iload dX0_ways_43 rfl ?_
        refine r_ialdN dX0_ways_45 rfl (by omega) (Nat.le_of_ble_eq_true rfl) ?_
        refine r_i2l dX0_ways_46 ?_
        refine r_goto 64 dX0_ways_47 (by decide) ?_
        refine r_lmul dX0_ways_64 ?_
        refine r_lstore_n dX0_ways_65 (Nat.le_of_ble_eq_true rfl) ?_
        refine r_iincV dX0_ways_66 rfl (Nat.le_of_ble_eq_true rfl) (incN _) ?_
        refine r_goto 5 dX0_ways_69 (by decide) ?_
        first | (have q1 := b2i_0.mp c_23; simp only [waF, q1, Bool.not_false, if_true] at ih; exact ih) | (have q1 := b2i_n.mp c_23; have q2 := b2i_0.mp c_33; simp only [waF, q1, q2, Bool.not_true, Bool.false_eq_true, if_false] at ih; exact ih) | (have q1 := b2i_n.mp c_23; have q2 := b2i_n.mp c_33; simp only [waF, q1, q2, Bool.not_true, Bool.false_eq_true, if_false, if_true] at ih; exact ih)
theorem pX0_all {h : AHp} {m : Nat} (hm : m < 1000) (hQ : Q (some (.long (alF (fun _ => false) m))) h) : AMet mX0_all 1 0 0 [.int (nI m)] h Q := by
  refine AMet.ofRch rfl rfl (Nat.le_of_ble_eq_true rfl) ?_
  refine r_lconst 1 dX0_all_0 (by decide) ?_
  refine r_lstore_n dX0_all_1 (Nat.le_of_ble_eq_true rfl) ?_
  refine r_iconst 0 dX0_all_2 (by decide) ?_
  refine r_istore_n dX0_all_3 (Nat.le_of_ble_eq_true rfl) ?_
  refine loopUp (N := m) (P := fun k => Rch (mX0_all, 1, 0, 0, oQ Q) 0 0 4 [some (.int (nI m)), some (.long (alF (fun _ => false) k)), none, some (.int (nI k))] [] h) ?_ ?_
  · refine r_iload_n dX0_all_4 rfl ?_
    refine r_iload_n dX0_all_5 rfl ?_
    refine r_icmp_ge 21 dX0_all_6 (by decide) (fun _ => ?_) (fun c_ => absurd (Int32.le_refl _) c_)
    refine r_lload_n dX0_all_21 rfl ?_
    exact r_lret dX0_all_22 rfl (Nat.le_of_ble_eq_true rfl) (Nat.le_of_ble_eq_true rfl) (hQ)
  · intro k hk ih
    refine r_iload_n dX0_all_4 rfl ?_
    refine r_iload_n dX0_all_5 rfl ?_
    refine r_icmp_ge 21 dX0_all_6 (by decide) (fun c_ => absurd c_ (geF hk (by omega))) (fun _ => ?_)
    refine r_lload_n dX0_all_9 rfl ?_
    refine r_ldc2 q1378 dX0_all_10 ?_
    refine r_lmul dX0_all_13 ?_
    refine r_lstore_n dX0_all_14 (Nat.le_of_ble_eq_true rfl) ?_
    refine r_iincV dX0_all_15 rfl (Nat.le_of_ble_eq_true rfl) (incN _) ?_
    refine r_goto 4 dX0_all_18 (by decide) ?_
    simp only [alF, Bool.false_eq_true, if_false] at ih
    exact ih
theorem pX0_ofMillion {h : AHp} {m : Nat} {v : Int64} (hm : m ≤ 8) (hQ : Q (some (.int (mlF v (alF (fun _ => false) m)))) h) : AMet mX0_ofMillion 2 0 0 [.ref 1, .long v, .int (nI m)] h Q := by
  refine AMet.ofRch rfl rfl (Nat.le_of_ble_eq_true rfl) ?_
  refine r_ldc2 q1374 dX0_ofMillion_0 ?_
  refine r_lload_n dX0_ofMillion_3 rfl ?_
  refine r_lmul dX0_ofMillion_4 ?_
  refine r_iload_n dX0_ofMillion_5 rfl ?_
  refine r_callS (as := [_]) okX0_all q1375 dX0_ofMillion_6 (Nat.le_of_ble_eq_true rfl) rfl (Nat.le_of_ble_eq_true rfl) (Nat.le_of_ble_eq_true rfl) (Nat.le_of_ble_eq_true rfl) (pX0_all (by omega) ?_)
  refine r_ldiv dX0_ofMillion_9 (al_ne hm) ?_
  refine r_l2i dX0_ofMillion_10 ?_
  exact r_iret dX0_ofMillion_11 rfl (Nat.le_of_ble_eq_true rfl) (Nat.le_of_ble_eq_true rfl) (hQ)
theorem wa_all {s : Int32} (hn : n ≤ 8) : waF co s (fun l => !hasB (allS n) (nI l)) n = waF co s (fun l => nI l == -1) n := wa_congr n (fun l hl => by
  rw [has_all hn hl]
  exact (beq_eq_false_iff_ne.mpr (nI_m1 (by omega))).symm)
theorem al_all (hn : n ≤ 8) : alF (fun _ => false) n = alF (fun l => nI l == -1) n := al_congr n (fun l hl => (beq_eq_false_iff_ne.mpr (nI_m1 (by omega))).symm)
theorem pX0_odds {p : Int32} (hn : n ≤ 8) (hL : LkI lc r3 nl kN ow n) (hP : ThI th) (hbad : inB p 0 11 = false → Q (some (.int (-2))) (r0, (xC (.ref 2) iv tP tL tA tK tC tS tH tN tE tZ tf mP mf eP eT eF ef eg ew rx gx wx hv tp td (upd rf 2 (rf 2 + 1)) rc ic), (wC th pf nl ag lk co sh hs (nI n) ev se lc), r3)) (hst : ∀ j, j < 12 → p = nI j → th j = -1 → Q (some (.int (-5))) (r0, (xC (.ref 2) iv tP tL tA tK tC tS tH tN tE tZ tf mP mf eP eT eF ef eg ew rx gx wx hv tp td (upd rf 5 (rf 5 + 1)) rc ic), (wC th pf nl ag lk co sh hs (nI n) ev se lc), r3)) (hok : ∀ j, j < 12 → p = nI j → th j ≠ -1 → ∀ (eP eT eF : Nat → Int32) (ef eg : Int32) (ew : Value), Q (some (.int (mlF (suF (fun k => (evR kN ow lk ag n th (nI k)).1 j != -1) (fun k => waF co (nI k) (fun l => nI l == -1) n) (2 ^ n)) (alF (fun l => nI l == -1) n)))) (r0, (xC (.ref 2) iv tP tL tA tK tC tS tH tN tE tZ tf mP mf eP eT eF ef eg ew rx gx wx hv tp td rf rc ic), (wC th pf nl ag lk co sh hs (nI n) ev se lc), r3)) : AMet mX0_odds 10 0 0 [.ref 1, .int p] (r0, (xC (.ref 2) iv tP tL tA tK tC tS tH tN tE tZ tf mP mf eP eT eF ef eg ew rx gx wx hv tp td rf rc ic), (wC th pf nl ag lk co sh hs (nI n) ev se lc), r3) Q := by
  refine AMet.ofRch rfl rfl (Nat.le_of_ble_eq_true rfl) ?_
  have h2 := p2_le hn
  have h3 := p2_pos n
  have hgo : ∀ j, j < 12 → p = nI j → Rch (mX0_odds, 10, 0, 0, oQ Q) 0 0 14 [some (.ref 1), some (.int p), none, none, none] [] (r0, (xC (.ref 2) iv tP tL tA tK tC tS tH tN tE tZ tf mP mf eP eT eF ef eg ew rx gx wx hv tp td rf rc ic), (wC th pf nl ag lk co sh hs (nI n) ev se lc), r3) := by
    intro j hj e
    subst e
    by_cases g : th j = -1
    · refine r_aload_n dX0_odds_14 rfl ?_
      refine r_get bX0 0 (by decide) q246 dX0_odds_15 rfl rfl ?_
      refine r_get bX1 0 (by decide) q160 dX0_odds_18 rfl rfl ?_
      refine r_get bX2 0 (by decide) q146 dX0_odds_21 rfl rfl ?_
      refine r_iload_n dX0_odds_24 rfl ?_
      refine r_ialdN dX0_odds_25 rfl (by omega) (Nat.le_of_ble_eq_true rfl) ?_
      refine r_iconst (-1) dX0_odds_26 (by decide) ?_
      refine r_icmp_ne 37 dX0_odds_27 (by decide) (fun c_ => absurd (g) c_) (fun _ => ?_)
      refine r_aload_n dX0_odds_30 rfl ?_
      refine r_bipush (-5) dX0_odds_31 (by decide) ?_
      refine r_callV (as := [_]) okX0_no bX0 rfl rfl q381 dX0_odds_33 (Nat.le_of_ble_eq_true rfl) rfl (Nat.le_of_ble_eq_true rfl) (Nat.le_of_ble_eq_true rfl) (Nat.le_of_ble_eq_true rfl) (pX0_no 5 (by decide) (by decide) ?_)
      exact r_iret dX0_odds_36 rfl (Nat.le_of_ble_eq_true rfl) (Nat.le_of_ble_eq_true rfl) (hst j hj rfl g)
    · refine r_aload_n dX0_odds_14 rfl ?_
      refine r_get bX0 0 (by decide) q246 dX0_odds_15 rfl rfl ?_
      refine r_get bX1 0 (by decide) q160 dX0_odds_18 rfl rfl ?_
      refine r_get bX2 0 (by decide) q146 dX0_odds_21 rfl rfl ?_
      refine r_iload_n dX0_odds_24 rfl ?_
      refine r_ialdN dX0_odds_25 rfl (by omega) (Nat.le_of_ble_eq_true rfl) ?_
      refine r_iconst (-1) dX0_odds_26 (by decide) ?_
      refine r_icmp_ne 37 dX0_odds_27 (by decide) (fun _ => ?_) (fun c_ => absurd c_ (g))
      refine r_lconst 0 dX0_odds_37 (by decide) ?_
      refine r_lstore_n dX0_odds_38 (Nat.le_of_ble_eq_true rfl) ?_
      refine r_iconst 0 dX0_odds_39 (by decide) ?_
      refine r_istore dX0_odds_40 (Nat.le_of_ble_eq_true rfl) ?_
      refine loopUp (N := 2 ^ n) (P := fun k => ∀ (eP eT eF : Nat → Int32) (ef eg : Int32) (ew : Value), Rch (mX0_odds, 10, 0, 0, oQ Q) 0 0 42 [some (.ref 1), some (.int (nI j)), some (.long (suF (fun k => (evR kN ow lk ag n th (nI k)).1 j != -1) (fun k => waF co (nI k) (fun l => nI l == -1) n) k)), none, some (.int (nI k))] [] (r0, (xC (.ref 2) iv tP tL tA tK tC tS tH tN tE tZ tf mP mf eP eT eF ef eg ew rx gx wx hv tp td rf rc ic), (wC th pf nl ag lk co sh hs (nI n) ev se lc), r3)) ?_ ?_ _ _ _ _ _ _
      · intro eP eT eF ef eg ew
        refine r_iload dX0_odds_42 rfl ?_
        refine r_aload_n dX0_odds_44 rfl ?_
        refine r_get bX0 0 (by decide) q246 dX0_odds_45 rfl rfl ?_
        refine r_callV (as := []) okX1_everybody bX1 rfl rfl q1223 dX0_odds_48 (Nat.le_of_ble_eq_true rfl) rfl (Nat.le_of_ble_eq_true rfl) (Nat.le_of_ble_eq_true rfl) (Nat.le_of_ble_eq_true rfl) (pX1_everybody rfl ?_)
        rw [shl1m hn]
        refine r_icmp_gt 103 dX0_odds_51 (by decide) (fun _ => ?_) (fun c_ => absurd (nI_lt (by omega) (by omega)) c_)
        refine r_aload_n dX0_odds_103 rfl ?_
        refine r_lload_n dX0_odds_104 rfl ?_
        refine r_aload_n dX0_odds_105 rfl ?_
        refine r_get bX0 0 (by decide) q246 dX0_odds_106 rfl rfl ?_
        refine r_get bX1 7 (by decide) q179 dX0_odds_109 rfl rfl ?_
        refine r_callV (as := [_, _]) okX0_ofMillion bX0 rfl rfl q1370 dX0_odds_112 (Nat.le_of_ble_eq_true rfl) rfl (Nat.le_of_ble_eq_true rfl) (Nat.le_of_ble_eq_true rfl) (Nat.le_of_ble_eq_true rfl) (pX0_ofMillion hn ?_)
        rw [al_all hn]
        exact r_iret dX0_odds_115 rfl (Nat.le_of_ble_eq_true rfl) (Nat.le_of_ble_eq_true rfl) (hok j hj rfl g _ _ _ _ _ _)
      · intro k hk2 ih eP eT eF ef eg ew
        refine r_iload dX0_odds_42 rfl ?_
        refine r_aload_n dX0_odds_44 rfl ?_
        refine r_get bX0 0 (by decide) q246 dX0_odds_45 rfl rfl ?_
        refine r_callV (as := []) okX1_everybody bX1 rfl rfl q1223 dX0_odds_48 (Nat.le_of_ble_eq_true rfl) rfl (Nat.le_of_ble_eq_true rfl) (Nat.le_of_ble_eq_true rfl) (Nat.le_of_ble_eq_true rfl) (pX1_everybody rfl ?_)
        rw [shl1m hn]
        refine r_icmp_gt 103 dX0_odds_51 (by decide) (fun c_ => absurd c_ (nI_nlt (by omega) (by omega))) (fun _ => ?_)
        refine r_lload_n dX0_odds_54 rfl ?_
        refine r_aload_n dX0_odds_55 rfl ?_
        refine r_get bX0 4 (by decide) q250 dX0_odds_56 rfl rfl ?_
        refine r_aload_n dX0_odds_59 rfl ?_
        refine r_get bX0 0 (by decide) q246 dX0_odds_60 rfl rfl ?_
        refine r_iload dX0_odds_63 rfl ?_
        refine r_callV (as := [_, _]) okX3_of bX3 rfl rfl q547 dX0_odds_65 (Nat.le_of_ble_eq_true rfl) rfl (Nat.le_of_ble_eq_true rfl) (Nat.le_of_ble_eq_true rfl) (Nat.le_of_ble_eq_true rfl) (pX3_of_n hn hL hP (fun ef2 => ?_))
        refine r_callV (as := []) okX3_left bX3 rfl rfl q1227 dX0_odds_68 (Nat.le_of_ble_eq_true rfl) rfl (Nat.le_of_ble_eq_true rfl) (Nat.le_of_ble_eq_true rfl) (Nat.le_of_ble_eq_true rfl) (pX3_left rfl rfl rfl ?_)
        refine r_iload_n dX0_odds_71 rfl ?_
        refine r_callS (as := [_, _]) okX0_has q974 dX0_odds_72 (Nat.le_of_ble_eq_true rfl) rfl (Nat.le_of_ble_eq_true rfl) (Nat.le_of_ble_eq_true rfl) (Nat.le_of_ble_eq_true rfl) (pX0_has ?_)
        refine r_if_eq 94 dX0_odds_75 (by decide) (fun c_75 => ?_) (fun c_75 => ?_)
        · refine r_lconst 0 dX0_odds_94 (by decide) ?_
          refine r_ladd dX0_odds_95 ?_
          refine r_lstore_n dX0_odds_96 (Nat.le_of_ble_eq_true rfl) ?_
          refine r_iincV dX0_odds_97 rfl (Nat.le_of_ble_eq_true rfl) (incN _) ?_
          refine r_goto 42 dX0_odds_100 (by decide) ?_
          first | (have q1 := b2i_0.mp c_75; rw [bits_has 12 (by omega) hj] at q1; simp only [suF, q1, Bool.false_eq_true, if_false] at ih; rw [Int64.add_zero]; exact ih _ _ _ _ _ _) | (have q1 := b2i_n.mp c_75; rw [bits_has 12 (by omega) hj] at q1; simp only [suF, q1, if_true] at ih; exact ih _ _ _ _ _ _)
        · refine r_aload_n dX0_odds_78 rfl ?_
          refine r_iload dX0_odds_79 rfl ?_
          refine r_aload_n dX0_odds_81 rfl ?_
          refine r_get bX0 0 (by decide) q246 dX0_odds_82 rfl rfl ?_
          refine r_callV (as := []) okX1_everybody bX1 rfl rfl q1223 dX0_odds_85 (Nat.le_of_ble_eq_true rfl) rfl (Nat.le_of_ble_eq_true rfl) (Nat.le_of_ble_eq_true rfl) (Nat.le_of_ble_eq_true rfl) (pX1_everybody rfl ?_)
          rw [shl1m hn]
          refine r_callV (as := [_, _]) okX0_ways bX0 rfl rfl q1366 dX0_odds_88 (Nat.le_of_ble_eq_true rfl) rfl (Nat.le_of_ble_eq_true rfl) (Nat.le_of_ble_eq_true rfl) (Nat.le_of_ble_eq_true rfl) (pX0_ways hn ?_)
          rw [wa_all hn]
          refine r_goto 95 dX0_odds_91 (by decide) ?_
          refine r_ladd dX0_odds_95 ?_
          refine r_lstore_n dX0_odds_96 (Nat.le_of_ble_eq_true rfl) ?_
          refine r_iincV dX0_odds_97 rfl (Nat.le_of_ble_eq_true rfl) (incN _) ?_
          refine r_goto 42 dX0_odds_100 (by decide) ?_
          first | (have q1 := b2i_0.mp c_75; rw [bits_has 12 (by omega) hj] at q1; simp only [suF, q1, Bool.false_eq_true, if_false] at ih; rw [Int64.add_zero]; exact ih _ _ _ _ _ _) | (have q1 := b2i_n.mp c_75; rw [bits_has 12 (by omega) hj] at q1; simp only [suF, q1, if_true] at ih; exact ih _ _ _ _ _ _)
  refine r_iload_n dX0_odds_0 rfl ?_
  refine r_callS (as := [_]) okX0_isPlace q651 dX0_odds_1 (Nat.le_of_ble_eq_true rfl) rfl (Nat.le_of_ble_eq_true rfl) (Nat.le_of_ble_eq_true rfl) (Nat.le_of_ble_eq_true rfl) (pX0_isPlace ?_)
  refine r_if_ne 14 dX0_odds_4 (by decide) (fun c_4 => ?_) (fun c_4 => ?_)
  · obtain ⟨j, hj, e⟩ := inB_ex 11 (by decide) (b2i_n.mp c_4)
    exact hgo j (by omega) e
  · refine r_aload_n dX0_odds_7 rfl ?_
    refine r_bipush (-2) dX0_odds_8 (by decide) ?_
    refine r_callV (as := [_]) okX0_no bX0 rfl rfl q381 dX0_odds_10 (Nat.le_of_ble_eq_true rfl) rfl (Nat.le_of_ble_eq_true rfl) (Nat.le_of_ble_eq_true rfl) (Nat.le_of_ble_eq_true rfl) (pX0_no 2 (by decide) (by decide) ?_)
    exact r_iret dX0_odds_13 rfl (Nat.le_of_ble_eq_true rfl) (Nat.le_of_ble_eq_true rfl) (hbad (b2i_0.mp c_4))
theorem pX0_gladOdds {m : Int32} (hn : n ≤ 8) (hL : LkI lc r3 nl kN ow n) (hP : ThI th) (hbad : inB m 0 8 = false → Q (some (.int (-2))) (r0, (xC (.ref 2) iv tP tL tA tK tC tS tH tN tE tZ tf mP mf eP eT eF ef eg ew rx gx wx hv tp td (upd rf 2 (rf 2 + 1)) rc ic), (wC th pf nl ag lk co sh hs (nI n) ev se lc), r3)) (hok : inB m 0 8 = true → ∀ (eP eT eF : Nat → Int32) (ef eg : Int32) (ew : Value), Q (some (.int (mlF (suF (fun k => decide (m ≤ gcF kN ow lk ag n th (nI k))) (fun k => waF co (nI k) (fun l => nI l == -1) n) (2 ^ n)) (alF (fun l => nI l == -1) n)))) (r0, (xC (.ref 2) iv tP tL tA tK tC tS tH tN tE tZ tf mP mf eP eT eF ef eg ew rx gx wx hv tp td rf rc ic), (wC th pf nl ag lk co sh hs (nI n) ev se lc), r3)) : AMet mX0_gladOdds 10 0 0 [.ref 1, .int m] (r0, (xC (.ref 2) iv tP tL tA tK tC tS tH tN tE tZ tf mP mf eP eT eF ef eg ew rx gx wx hv tp td rf rc ic), (wC th pf nl ag lk co sh hs (nI n) ev se lc), r3) Q := by
  refine AMet.ofRch rfl rfl (Nat.le_of_ble_eq_true rfl) ?_
  have h2 := p2_le hn
  have h3 := p2_pos n
  have hgo : inB m 0 8 = true → Rch (mX0_gladOdds, 10, 0, 0, oQ Q) 0 0 17 [some (.ref 1), some (.int m), none, none, none] [] (r0, (xC (.ref 2) iv tP tL tA tK tC tS tH tN tE tZ tf mP mf eP eT eF ef eg ew rx gx wx hv tp td rf rc ic), (wC th pf nl ag lk co sh hs (nI n) ev se lc), r3) := by
    intro g
    refine r_lconst 0 dX0_gladOdds_17 (by decide) ?_
    refine r_lstore_n dX0_gladOdds_18 (Nat.le_of_ble_eq_true rfl) ?_
    refine r_iconst 0 dX0_gladOdds_19 (by decide) ?_
    refine r_istore dX0_gladOdds_20 (Nat.le_of_ble_eq_true rfl) ?_
    refine loopUp (N := 2 ^ n) (P := fun k => ∀ (eP eT eF : Nat → Int32) (ef eg : Int32) (ew : Value), Rch (mX0_gladOdds, 10, 0, 0, oQ Q) 0 0 22 [some (.ref 1), some (.int m), some (.long (suF (fun k => decide (m ≤ gcF kN ow lk ag n th (nI k))) (fun k => waF co (nI k) (fun l => nI l == -1) n) k)), none, some (.int (nI k))] [] (r0, (xC (.ref 2) iv tP tL tA tK tC tS tH tN tE tZ tf mP mf eP eT eF ef eg ew rx gx wx hv tp td rf rc ic), (wC th pf nl ag lk co sh hs (nI n) ev se lc), r3)) ?_ ?_ _ _ _ _ _ _
    · intro eP eT eF ef eg ew
      refine r_iload dX0_gladOdds_22 rfl ?_
      refine r_aload_n dX0_gladOdds_24 rfl ?_
      refine r_get bX0 0 (by decide) q246 dX0_gladOdds_25 rfl rfl ?_
      refine r_callV (as := []) okX1_everybody bX1 rfl rfl q1223 dX0_gladOdds_28 (Nat.le_of_ble_eq_true rfl) rfl (Nat.le_of_ble_eq_true rfl) (Nat.le_of_ble_eq_true rfl) (Nat.le_of_ble_eq_true rfl) (pX1_everybody rfl ?_)
      rw [shl1m hn]
      refine r_icmp_gt 80 dX0_gladOdds_31 (by decide) (fun _ => ?_) (fun c_ => absurd (nI_lt (by omega) (by omega)) c_)
      refine r_aload_n dX0_gladOdds_80 rfl ?_
      refine r_lload_n dX0_gladOdds_81 rfl ?_
      refine r_aload_n dX0_gladOdds_82 rfl ?_
      refine r_get bX0 0 (by decide) q246 dX0_gladOdds_83 rfl rfl ?_
      refine r_get bX1 7 (by decide) q179 dX0_gladOdds_86 rfl rfl ?_
      refine r_callV (as := [_, _]) okX0_ofMillion bX0 rfl rfl q1370 dX0_gladOdds_89 (Nat.le_of_ble_eq_true rfl) rfl (Nat.le_of_ble_eq_true rfl) (Nat.le_of_ble_eq_true rfl) (Nat.le_of_ble_eq_true rfl) (pX0_ofMillion hn ?_)
      rw [al_all hn]
      exact r_iret dX0_gladOdds_92 rfl (Nat.le_of_ble_eq_true rfl) (Nat.le_of_ble_eq_true rfl) (hok g _ _ _ _ _ _)
    · intro k hk2 ih eP eT eF ef eg ew
      refine r_iload dX0_gladOdds_22 rfl ?_
      refine r_aload_n dX0_gladOdds_24 rfl ?_
      refine r_get bX0 0 (by decide) q246 dX0_gladOdds_25 rfl rfl ?_
      refine r_callV (as := []) okX1_everybody bX1 rfl rfl q1223 dX0_gladOdds_28 (Nat.le_of_ble_eq_true rfl) rfl (Nat.le_of_ble_eq_true rfl) (Nat.le_of_ble_eq_true rfl) (Nat.le_of_ble_eq_true rfl) (pX1_everybody rfl ?_)
      rw [shl1m hn]
      refine r_icmp_gt 80 dX0_gladOdds_31 (by decide) (fun c_ => absurd c_ (nI_nlt (by omega) (by omega))) (fun _ => ?_)
      refine r_lload_n dX0_gladOdds_34 rfl ?_
      refine r_aload_n dX0_gladOdds_35 rfl ?_
      refine r_get bX0 4 (by decide) q250 dX0_gladOdds_36 rfl rfl ?_
      refine r_aload_n dX0_gladOdds_39 rfl ?_
      refine r_get bX0 0 (by decide) q246 dX0_gladOdds_40 rfl rfl ?_
      refine r_iload dX0_gladOdds_43 rfl ?_
      refine r_callV (as := [_, _]) okX3_of bX3 rfl rfl q547 dX0_gladOdds_45 (Nat.le_of_ble_eq_true rfl) rfl (Nat.le_of_ble_eq_true rfl) (Nat.le_of_ble_eq_true rfl) (Nat.le_of_ble_eq_true rfl) (pX3_of_n hn hL hP (fun ef2 => ?_))
      refine r_callV (as := []) okX3_many bX3 rfl rfl q1243 dX0_gladOdds_48 (Nat.le_of_ble_eq_true rfl) rfl (Nat.le_of_ble_eq_true rfl) (Nat.le_of_ble_eq_true rfl) (Nat.le_of_ble_eq_true rfl) (pX3_many rfl ?_)
      rw [bc_bits hn]
      refine r_iload_n dX0_gladOdds_51 rfl ?_
      refine r_icmp_lt 71 dX0_gladOdds_52 (by decide) (fun c_52 => ?_) (fun c_52 => ?_)
      · refine r_lconst 0 dX0_gladOdds_71 (by decide) ?_
        refine r_ladd dX0_gladOdds_72 ?_
        refine r_lstore_n dX0_gladOdds_73 (Nat.le_of_ble_eq_true rfl) ?_
        refine r_iincV dX0_gladOdds_74 rfl (Nat.le_of_ble_eq_true rfl) (incN _) ?_
        refine r_goto 22 dX0_gladOdds_77 (by decide) ?_
        first | (have q1 : ¬ m ≤ gcF kN ow lk ag n th (nI k) := Int32.not_le.mpr c_52; simp only [suF, q1, decide_false, Bool.false_eq_true, if_false] at ih; rw [Int64.add_zero]; exact ih _ _ _ _ _ _) | (have q1 : m ≤ gcF kN ow lk ag n th (nI k) := Int32.not_lt.mp c_52; simp only [suF, q1, decide_true, if_true] at ih; exact ih _ _ _ _ _ _)
      · refine r_aload_n dX0_gladOdds_55 rfl ?_
        refine r_iload dX0_gladOdds_56 rfl ?_
        refine r_aload_n dX0_gladOdds_58 rfl ?_
        refine r_get bX0 0 (by decide) q246 dX0_gladOdds_59 rfl rfl ?_
        refine r_callV (as := []) okX1_everybody bX1 rfl rfl q1223 dX0_gladOdds_62 (Nat.le_of_ble_eq_true rfl) rfl (Nat.le_of_ble_eq_true rfl) (Nat.le_of_ble_eq_true rfl) (Nat.le_of_ble_eq_true rfl) (pX1_everybody rfl ?_)
        rw [shl1m hn]
        refine r_callV (as := [_, _]) okX0_ways bX0 rfl rfl q1366 dX0_gladOdds_65 (Nat.le_of_ble_eq_true rfl) rfl (Nat.le_of_ble_eq_true rfl) (Nat.le_of_ble_eq_true rfl) (Nat.le_of_ble_eq_true rfl) (pX0_ways hn ?_)
        rw [wa_all hn]
        refine r_goto 72 dX0_gladOdds_68 (by decide) ?_
        refine r_ladd dX0_gladOdds_72 ?_
        refine r_lstore_n dX0_gladOdds_73 (Nat.le_of_ble_eq_true rfl) ?_
        refine r_iincV dX0_gladOdds_74 rfl (Nat.le_of_ble_eq_true rfl) (incN _) ?_
        refine r_goto 22 dX0_gladOdds_77 (by decide) ?_
        first | (have q1 : ¬ m ≤ gcF kN ow lk ag n th (nI k) := Int32.not_le.mpr c_52; simp only [suF, q1, decide_false, Bool.false_eq_true, if_false] at ih; rw [Int64.add_zero]; exact ih _ _ _ _ _ _) | (have q1 : m ≤ gcF kN ow lk ag n th (nI k) := Int32.not_lt.mp c_52; simp only [suF, q1, decide_true, if_true] at ih; exact ih _ _ _ _ _ _)
  refine r_iload_n dX0_gladOdds_0 rfl ?_
  refine r_iconst 0 dX0_gladOdds_1 (by decide) ?_
  refine r_bipush 8 dX0_gladOdds_2 (by decide) ?_
  refine r_callS (as := [_, _, _]) okX0_isIn q378 dX0_gladOdds_4 (Nat.le_of_ble_eq_true rfl) rfl (Nat.le_of_ble_eq_true rfl) (Nat.le_of_ble_eq_true rfl) (Nat.le_of_ble_eq_true rfl) (pX0_isIn ?_)
  refine r_if_ne 17 dX0_gladOdds_7 (by decide) (fun c_7 => ?_) (fun c_7 => ?_)
  · exact hgo (b2i_n.mp c_7)
  · refine r_aload_n dX0_gladOdds_10 rfl ?_
    refine r_bipush (-2) dX0_gladOdds_11 (by decide) ?_
    refine r_callV (as := [_]) okX0_no bX0 rfl rfl q381 dX0_gladOdds_13 (Nat.le_of_ble_eq_true rfl) rfl (Nat.le_of_ble_eq_true rfl) (Nat.le_of_ble_eq_true rfl) (Nat.le_of_ble_eq_true rfl) (pX0_no 2 (by decide) (by decide) ?_)
    exact r_iret dX0_gladOdds_16 rfl (Nat.le_of_ble_eq_true rfl) (Nat.le_of_ble_eq_true rfl) (hbad (b2i_0.mp c_7))
theorem pX0_meanLeft (hn : n ≤ 8) (hL : LkI lc r3 nl kN ow n) (hP : ThI th) (hQ : ∀ (eP eT eF : Nat → Int32) (ef eg : Int32) (ew : Value), Q (some (.int (1000 * suF (fun _ => true) (fun k => waF co (nI k) (fun l => nI l == -1) n * (bcF (leF kN ow lk ag n th (nI k))).toInt64) (2 ^ n) / alF (fun l => nI l == -1) n).toInt32)) (r0, (xC (.ref 2) iv tP tL tA tK tC tS tH tN tE tZ tf mP mf eP eT eF ef eg ew rx gx wx hv tp td rf rc ic), (wC th pf nl ag lk co sh hs (nI n) ev se lc), r3)) : AMet mX0_meanLeft 10 0 0 [.ref 1] (r0, (xC (.ref 2) iv tP tL tA tK tC tS tH tN tE tZ tf mP mf eP eT eF ef eg ew rx gx wx hv tp td rf rc ic), (wC th pf nl ag lk co sh hs (nI n) ev se lc), r3) Q := by
  refine AMet.ofRch rfl rfl (Nat.le_of_ble_eq_true rfl) ?_
  have h2 := p2_le hn
  have h3 := p2_pos n
  refine r_lconst 0 dX0_meanLeft_0 (by decide) ?_
  refine r_lstore_n dX0_meanLeft_1 (Nat.le_of_ble_eq_true rfl) ?_
  refine r_iconst 0 dX0_meanLeft_2 (by decide) ?_
  refine r_istore_n dX0_meanLeft_3 (Nat.le_of_ble_eq_true rfl) ?_
  refine loopUp (N := 2 ^ n) (P := fun k => ∀ (eP eT eF : Nat → Int32) (ef eg : Int32) (ew : Value), Rch (mX0_meanLeft, 10, 0, 0, oQ Q) 0 0 4 [some (.ref 1), some (.long (suF (fun _ => true) (fun k => waF co (nI k) (fun l => nI l == -1) n * (bcF (leF kN ow lk ag n th (nI k))).toInt64) k)), none, some (.int (nI k))] [] (r0, (xC (.ref 2) iv tP tL tA tK tC tS tH tN tE tZ tf mP mf eP eT eF ef eg ew rx gx wx hv tp td rf rc ic), (wC th pf nl ag lk co sh hs (nI n) ev se lc), r3)) ?_ ?_ _ _ _ _ _ _
  · intro eP eT eF ef eg ew
    refine r_iload_n dX0_meanLeft_4 rfl ?_
    refine r_aload_n dX0_meanLeft_5 rfl ?_
    refine r_get bX0 0 (by decide) q246 dX0_meanLeft_6 rfl rfl ?_
    refine r_callV (as := []) okX1_everybody bX1 rfl rfl q1223 dX0_meanLeft_9 (Nat.le_of_ble_eq_true rfl) rfl (Nat.le_of_ble_eq_true rfl) (Nat.le_of_ble_eq_true rfl) (Nat.le_of_ble_eq_true rfl) (pX1_everybody rfl ?_)
    rw [shl1m hn]
    refine r_icmp_gt 56 dX0_meanLeft_12 (by decide) (fun _ => ?_) (fun c_ => absurd (nI_lt (by omega) (by omega)) c_)
    refine r_ldc2 q1391 dX0_meanLeft_56 ?_
    refine r_lload_n dX0_meanLeft_59 rfl ?_
    refine r_lmul dX0_meanLeft_60 ?_
    refine r_aload_n dX0_meanLeft_61 rfl ?_
    refine r_get bX0 0 (by decide) q246 dX0_meanLeft_62 rfl rfl ?_
    refine r_get bX1 7 (by decide) q179 dX0_meanLeft_65 rfl rfl ?_
    refine r_callS (as := [_]) okX0_all q1375 dX0_meanLeft_68 (Nat.le_of_ble_eq_true rfl) rfl (Nat.le_of_ble_eq_true rfl) (Nat.le_of_ble_eq_true rfl) (Nat.le_of_ble_eq_true rfl) (pX0_all (by omega) ?_)
    rw [al_all hn]
    refine r_ldiv dX0_meanLeft_71 (al_ne hn) ?_
    refine r_l2i dX0_meanLeft_72 ?_
    exact r_iret dX0_meanLeft_73 rfl (Nat.le_of_ble_eq_true rfl) (Nat.le_of_ble_eq_true rfl) (hQ _ _ _ _ _ _)
  · intro k hk2 ih eP eT eF ef eg ew
    refine r_iload_n dX0_meanLeft_4 rfl ?_
    refine r_aload_n dX0_meanLeft_5 rfl ?_
    refine r_get bX0 0 (by decide) q246 dX0_meanLeft_6 rfl rfl ?_
    refine r_callV (as := []) okX1_everybody bX1 rfl rfl q1223 dX0_meanLeft_9 (Nat.le_of_ble_eq_true rfl) rfl (Nat.le_of_ble_eq_true rfl) (Nat.le_of_ble_eq_true rfl) (Nat.le_of_ble_eq_true rfl) (pX1_everybody rfl ?_)
    rw [shl1m hn]
    refine r_icmp_gt 56 dX0_meanLeft_12 (by decide) (fun c_ => absurd c_ (nI_nlt (by omega) (by omega))) (fun _ => ?_)
    refine r_lload_n dX0_meanLeft_15 rfl ?_
    refine r_aload_n dX0_meanLeft_16 rfl ?_
    refine r_get bX0 4 (by decide) q250 dX0_meanLeft_17 rfl rfl ?_
    refine r_aload_n dX0_meanLeft_20 rfl ?_
    refine r_get bX0 0 (by decide) q246 dX0_meanLeft_21 rfl rfl ?_
    refine r_iload_n dX0_meanLeft_24 rfl ?_
    refine r_callV (as := [_, _]) okX3_of bX3 rfl rfl q547 dX0_meanLeft_25 (Nat.le_of_ble_eq_true rfl) rfl (Nat.le_of_ble_eq_true rfl) (Nat.le_of_ble_eq_true rfl) (Nat.le_of_ble_eq_true rfl) (pX3_of_n hn hL hP (fun ef2 => ?_))
    refine r_callV (as := []) okX3_left bX3 rfl rfl q1227 dX0_meanLeft_28 (Nat.le_of_ble_eq_true rfl) rfl (Nat.le_of_ble_eq_true rfl) (Nat.le_of_ble_eq_true rfl) (Nat.le_of_ble_eq_true rfl) (pX3_left rfl rfl rfl ?_)
    refine r_callS (as := [_]) okJ18_bitCount q1257 dX0_meanLeft_31 (Nat.le_of_ble_eq_true rfl) rfl (Nat.le_of_ble_eq_true rfl) (Nat.le_of_ble_eq_true rfl) (Nat.le_of_ble_eq_true rfl) (pJ18_bitCount ?_)
    refine r_i2l dX0_meanLeft_34 ?_
    refine r_aload_n dX0_meanLeft_35 rfl ?_
    refine r_iload_n dX0_meanLeft_36 rfl ?_
    refine r_aload_n dX0_meanLeft_37 rfl ?_
    refine r_get bX0 0 (by decide) q246 dX0_meanLeft_38 rfl rfl ?_
    refine r_callV (as := []) okX1_everybody bX1 rfl rfl q1223 dX0_meanLeft_41 (Nat.le_of_ble_eq_true rfl) rfl (Nat.le_of_ble_eq_true rfl) (Nat.le_of_ble_eq_true rfl) (Nat.le_of_ble_eq_true rfl) (pX1_everybody rfl ?_)
    rw [shl1m hn]
    refine r_callV (as := [_, _]) okX0_ways bX0 rfl rfl q1366 dX0_meanLeft_44 (Nat.le_of_ble_eq_true rfl) rfl (Nat.le_of_ble_eq_true rfl) (Nat.le_of_ble_eq_true rfl) (Nat.le_of_ble_eq_true rfl) (pX0_ways hn ?_)
    rw [wa_all hn]
    refine r_lmul dX0_meanLeft_47 ?_
    rw [Int64.mul_comm]
    refine r_ladd dX0_meanLeft_48 ?_
    refine r_lstore_n dX0_meanLeft_49 (Nat.le_of_ble_eq_true rfl) ?_
    refine r_iincV dX0_meanLeft_50 rfl (Nat.le_of_ble_eq_true rfl) (incN _) ?_
    refine r_goto 4 dX0_meanLeft_53 (by decide) ?_
    simp only [suF, if_true] at ih
    exact ih _ _ _ _ _ _
theorem pX0_likely {l : Int32} (hn : n ≤ 8) (hL : LkI lc r3 nl kN ow n) (hP : ThI th) (hbad : inB l 0 (nI n - 1) = false → Q (some (.int (-2))) (r0, (xC (.ref 2) iv tP tL tA tK tC tS tH tN tE tZ tf mP mf eP eT eF ef eg ew rx gx wx hv tp td (upd rf 2 (rf 2 + 1)) rc ic), (wC th pf nl ag lk co sh hs (nI n) ev se lc), r3)) (hok : ∀ j, j < n → l = nI j → ∀ (eP eT eF : Nat → Int32) (ef eg : Int32) (ew : Value), Q (some (.int (mlF (suF (fun k => hasB (nI k) (nI j) && glF kN ow lk ag n th j (nI k)) (fun k => waF co (nI k) (fun i => nI i == nI j) n) (2 ^ n)) (alF (fun i => nI i == nI j) n)))) (r0, (xC (.ref 2) iv tP tL tA tK tC tS tH tN tE tZ tf mP mf eP eT eF ef eg ew rx gx wx hv tp td rf rc ic), (wC th pf nl ag lk co sh hs (nI n) ev se lc), r3)) : AMet mX0_likely 11 0 0 [.ref 1, .int l] (r0, (xC (.ref 2) iv tP tL tA tK tC tS tH tN tE tZ tf mP mf eP eT eF ef eg ew rx gx wx hv tp td rf rc ic), (wC th pf nl ag lk co sh hs (nI n) ev se lc), r3) Q := by
  refine AMet.ofRch rfl rfl (Nat.le_of_ble_eq_true rfl) ?_
  have h2 := p2_le hn
  have h3 := p2_pos n
  have hgo : ∀ j, j < n → l = nI j → Rch (mX0_likely, 11, 0, 0, oQ Q) 0 0 18 [some (.ref 1), some (.int l), none, none, none, none] [] (r0, (xC (.ref 2) iv tP tL tA tK tC tS tH tN tE tZ tf mP mf eP eT eF ef eg ew rx gx wx hv tp td rf rc ic), (wC th pf nl ag lk co sh hs (nI n) ev se lc), r3) := by
    intro j hj e
    subst e
    have eway : ∀ s, waF co s (fun l => !hasB (allS n &&& ((1 <<< (nI j &&& 31)) ^^^ -1)) (nI l)) n = waF co s (fun i => nI i == nI j) n := fun s => wa_congr n (fun i hi => by
      rw [has_clr (by omega) (by omega), has_all hn hi]
      by_cases g : i = j
      · subst g
        simp
      · have g2 : ¬ nI i = nI j := fun z => g ((nI_eq (by omega) (by omega)).mp z)
        have g3 : j ≠ i := fun z => g z.symm
        rw [beq_eq_false_iff_ne.mpr g2, bne_iff_ne.mpr g3]
        rfl)
    refine r_aload_n dX0_likely_18 rfl ?_
    refine r_get bX0 0 (by decide) q246 dX0_likely_19 rfl rfl ?_
    refine r_callV (as := []) okX1_everybody bX1 rfl rfl q1223 dX0_likely_22 (Nat.le_of_ble_eq_true rfl) rfl (Nat.le_of_ble_eq_true rfl) (Nat.le_of_ble_eq_true rfl) (Nat.le_of_ble_eq_true rfl) (pX1_everybody rfl ?_)
    rw [shl1m hn]
    refine r_iconst 1 dX0_likely_25 (by decide) ?_
    refine r_iload_n dX0_likely_26 rfl ?_
    refine r_ishl dX0_likely_27 ?_
    refine r_iconst (-1) dX0_likely_28 (by decide) ?_
    refine r_ixor dX0_likely_29 ?_
    refine r_iand dX0_likely_30 ?_
    refine r_istore_n dX0_likely_31 (Nat.le_of_ble_eq_true rfl) ?_
    refine r_lconst 0 dX0_likely_32 (by decide) ?_
    refine r_lstore_n dX0_likely_33 (Nat.le_of_ble_eq_true rfl) ?_
    refine r_iconst 0 dX0_likely_34 (by decide) ?_
    refine r_istore dX0_likely_35 (Nat.le_of_ble_eq_true rfl) ?_
    refine loopUp (N := 2 ^ n) (P := fun k => ∀ (eP eT eF : Nat → Int32) (ef eg : Int32) (ew : Value), Rch (mX0_likely, 11, 0, 0, oQ Q) 0 0 37 [some (.ref 1), some (.int (nI j)), some (.int (allS n &&& ((1 <<< (nI j &&& 31)) ^^^ -1))), some (.long (suF (fun k => hasB (nI k) (nI j) && glF kN ow lk ag n th j (nI k)) (fun k => waF co (nI k) (fun i => nI i == nI j) n) k)), none, some (.int (nI k))] [] (r0, (xC (.ref 2) iv tP tL tA tK tC tS tH tN tE tZ tf mP mf eP eT eF ef eg ew rx gx wx hv tp td rf rc ic), (wC th pf nl ag lk co sh hs (nI n) ev se lc), r3)) ?_ ?_ _ _ _ _ _ _
    · intro eP eT eF ef eg ew
      have e1 : nI n - 1 = nI (n - 1) := by
        have := nI_pred (n - 1)
        rw [show n - 1 + 1 = n by omega] at this
        exact this
      refine r_iload dX0_likely_37 rfl ?_
      refine r_aload_n dX0_likely_39 rfl ?_
      refine r_get bX0 0 (by decide) q246 dX0_likely_40 rfl rfl ?_
      refine r_callV (as := []) okX1_everybody bX1 rfl rfl q1223 dX0_likely_43 (Nat.le_of_ble_eq_true rfl) rfl (Nat.le_of_ble_eq_true rfl) (Nat.le_of_ble_eq_true rfl) (Nat.le_of_ble_eq_true rfl) (pX1_everybody rfl ?_)
      rw [shl1m hn]
      refine r_icmp_gt 88 dX0_likely_46 (by decide) (fun _ => ?_) (fun c_ => absurd (nI_lt (by omega) (by omega)) c_)
      refine r_aload_n dX0_likely_88 rfl ?_
      refine r_lload_n dX0_likely_89 rfl ?_
      refine r_aload_n dX0_likely_90 rfl ?_
      refine r_get bX0 0 (by decide) q246 dX0_likely_91 rfl rfl ?_
      refine r_get bX1 7 (by decide) q179 dX0_likely_94 rfl rfl ?_
      refine r_iconst 1 dX0_likely_97 (by decide) ?_
      refine r_isub dX0_likely_98 ?_
      rw [e1]
      refine r_callV (as := [_, _]) okX0_ofMillion bX0 rfl rfl q1370 dX0_likely_99 (Nat.le_of_ble_eq_true rfl) rfl (Nat.le_of_ble_eq_true rfl) (Nat.le_of_ble_eq_true rfl) (Nat.le_of_ble_eq_true rfl) (pX0_ofMillion (m := n - 1) (by omega) ?_)
      rw [← al_skip n hj (by omega)]
      exact r_iret dX0_likely_102 rfl (Nat.le_of_ble_eq_true rfl) (Nat.le_of_ble_eq_true rfl) (hok j hj rfl _ _ _ _ _ _)
    · intro k hk2 ih eP eT eF ef eg ew
      refine r_iload dX0_likely_37 rfl ?_
      refine r_aload_n dX0_likely_39 rfl ?_
      refine r_get bX0 0 (by decide) q246 dX0_likely_40 rfl rfl ?_
      refine r_callV (as := []) okX1_everybody bX1 rfl rfl q1223 dX0_likely_43 (Nat.le_of_ble_eq_true rfl) rfl (Nat.le_of_ble_eq_true rfl) (Nat.le_of_ble_eq_true rfl) (Nat.le_of_ble_eq_true rfl) (pX1_everybody rfl ?_)
      rw [shl1m hn]
      refine r_icmp_gt 88 dX0_likely_46 (by decide) (fun c_ => absurd c_ (nI_nlt (by omega) (by omega))) (fun _ => ?_)
      refine r_lload_n dX0_likely_49 rfl ?_
      refine r_iload dX0_likely_50 rfl ?_
      refine r_iload_n dX0_likely_52 rfl ?_
      refine r_callS (as := [_, _]) okX0_has q974 dX0_likely_53 (Nat.le_of_ble_eq_true rfl) rfl (Nat.le_of_ble_eq_true rfl) (Nat.le_of_ble_eq_true rfl) (Nat.le_of_ble_eq_true rfl) (pX0_has ?_)
      refine r_if_eq 79 dX0_likely_56 (by decide) (fun c_56 => ?_) (fun c_56 => ?_)
      · refine r_lconst 0 dX0_likely_79 (by decide) ?_
        refine r_ladd dX0_likely_80 ?_
        refine r_lstore_n dX0_likely_81 (Nat.le_of_ble_eq_true rfl) ?_
        refine r_iincV dX0_likely_82 rfl (Nat.le_of_ble_eq_true rfl) (incN _) ?_
        refine r_goto 37 dX0_likely_85 (by decide) ?_
        first | (have q1 := b2i_0.mp c_56; simp only [suF, q1, Bool.false_and, Bool.false_eq_true, if_false] at ih; rw [Int64.add_zero]; exact ih _ _ _ _ _ _) | (have q1 := b2i_0.mp c_66; simp only [suF, q1, Bool.false_eq_true, if_false] at ih; rw [Int64.add_zero]; exact ih _ _ _ _ _ _) | (have q1 := b2i_n.mp c_66; simp only [suF, q1, if_true] at ih; exact ih _ _ _ _ _ _)
      · refine r_aload_n dX0_likely_59 rfl ?_
        refine r_iload dX0_likely_60 rfl ?_
        refine r_iload_n dX0_likely_62 rfl ?_
        refine r_callV (as := [_, _]) okX0_isGlad bX0 rfl rfl q1284 dX0_likely_63 (Nat.le_of_ble_eq_true rfl) rfl (Nat.le_of_ble_eq_true rfl) (Nat.le_of_ble_eq_true rfl) (Nat.le_of_ble_eq_true rfl) (pX0_isGlad hn hL hP hj (fun eP eT eF ef eg ew => ?_))
        refine r_if_eq 79 dX0_likely_66 (by decide) (fun c_66 => ?_) (fun c_66 => ?_)
        · refine r_lconst 0 dX0_likely_79 (by decide) ?_
          refine r_ladd dX0_likely_80 ?_
          refine r_lstore_n dX0_likely_81 (Nat.le_of_ble_eq_true rfl) ?_
          refine r_iincV dX0_likely_82 rfl (Nat.le_of_ble_eq_true rfl) (incN _) ?_
          refine r_goto 37 dX0_likely_85 (by decide) ?_
          first | (have q1 := b2i_0.mp c_56; simp only [suF, q1, Bool.false_and, Bool.false_eq_true, if_false] at ih; rw [Int64.add_zero]; exact ih _ _ _ _ _ _) | (have q1 := b2i_0.mp c_66; simp only [suF, q1, Bool.false_eq_true, if_false] at ih; rw [Int64.add_zero]; exact ih _ _ _ _ _ _) | (have q1 := b2i_n.mp c_66; simp only [suF, q1, if_true] at ih; exact ih _ _ _ _ _ _)
        · refine r_aload_n dX0_likely_69 rfl ?_
          refine r_iload dX0_likely_70 rfl ?_
          refine r_iload_n dX0_likely_72 rfl ?_
          refine r_callV (as := [_, _]) okX0_ways bX0 rfl rfl q1366 dX0_likely_73 (Nat.le_of_ble_eq_true rfl) rfl (Nat.le_of_ble_eq_true rfl) (Nat.le_of_ble_eq_true rfl) (Nat.le_of_ble_eq_true rfl) (pX0_ways hn ?_)
          rw [eway]
          refine r_goto 80 dX0_likely_76 (by decide) ?_
          refine r_ladd dX0_likely_80 ?_
          refine r_lstore_n dX0_likely_81 (Nat.le_of_ble_eq_true rfl) ?_
          refine r_iincV dX0_likely_82 rfl (Nat.le_of_ble_eq_true rfl) (incN _) ?_
          refine r_goto 37 dX0_likely_85 (by decide) ?_
          first | (have q1 := b2i_0.mp c_56; simp only [suF, q1, Bool.false_and, Bool.false_eq_true, if_false] at ih; rw [Int64.add_zero]; exact ih _ _ _ _ _ _) | (have q1 := b2i_0.mp c_66; simp only [suF, q1, Bool.false_eq_true, if_false] at ih; rw [Int64.add_zero]; exact ih _ _ _ _ _ _) | (have q1 := b2i_n.mp c_66; simp only [suF, q1, if_true] at ih; exact ih _ _ _ _ _ _)
  refine r_aload_n dX0_likely_0 rfl ?_
  refine r_get bX0 0 (by decide) q246 dX0_likely_1 rfl rfl ?_
  refine r_iload_n dX0_likely_4 rfl ?_
  refine r_callV (as := [_]) okX1_isLooker bX1 rfl rfl q519 dX0_likely_5 (Nat.le_of_ble_eq_true rfl) rfl (Nat.le_of_ble_eq_true rfl) (Nat.le_of_ble_eq_true rfl) (Nat.le_of_ble_eq_true rfl) (pX1_isLooker rfl ?_)
  refine r_if_ne 18 dX0_likely_8 (by decide) (fun c_8 => ?_) (fun c_8 => ?_)
  · obtain ⟨j, hj, e⟩ := inB_m (b2i_n.mp c_8) (by omega)
    exact hgo j hj e
  · refine r_aload_n dX0_likely_11 rfl ?_
    refine r_bipush (-2) dX0_likely_12 (by decide) ?_
    refine r_callV (as := [_]) okX0_no bX0 rfl rfl q381 dX0_likely_14 (Nat.le_of_ble_eq_true rfl) rfl (Nat.le_of_ble_eq_true rfl) (Nat.le_of_ble_eq_true rfl) (Nat.le_of_ble_eq_true rfl) (pX0_no 2 (by decide) (by decide) ?_)
    exact r_iret dX0_likely_17 rfl (Nat.le_of_ble_eq_true rfl) (Nat.le_of_ble_eq_true rfl) (hbad (b2i_0.mp c_8))
end XX
