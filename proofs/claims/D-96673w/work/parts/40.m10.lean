set_option maxRecDepth 100000
/-! the reference: odds, sorts, ranks -/
/-- parts of a million -/
def mlF (x a : Int64) : Int32 := (1000000 * x / a).toInt32
def rkF (ag hs : Nat → Int32) (w : Int32) (l : Nat) : Int32 := if w = 0 then -ag l else if w = 1 then ag l else suI (fun s => hs (8 * l + s)) 8
  where suI (f : Nat → Int32) : Nat → Int32
    | 0 => 0
    | k + 1 => suI f k + f k
def fiF (ag hs : Nat → Int32) (w : Int32) : Nat → Int32
  | 0 => -1
  | l + 1 => if fiF ag hs w l = -1 ∨ rkF ag hs w (fiF ag hs w l).toNatClampNeg < rkF ag hs w l then nI l else fiF ag hs w l
def raF (th : Nat → Int32) (w : Int32) : Nat → Int32
  | 0 => -1
  | s + 1 => if 0 < cnF th (nI s) ∧ (raF th w s = -1 ∨ (if w = 0 then cnF th (nI s) < cnF th (raF th w s) else cnF th (raF th w s) < cnF th (nI s))) then nI s else raF th w s
theorem fi_in (ag hs : Nat → Int32) (w : Int32) : ∀ n, fiF ag hs w n = -1 ∨ ∃ q, q < n ∧ fiF ag hs w n = nI q
  | 0 => Or.inl rfl
  | n + 1 => by
    simp only [fiF]
    split
    · exact Or.inr ⟨n, by omega, rfl⟩
    · rcases fi_in ag hs w n with h | ⟨q, h1, h2⟩
      · exact Or.inl h
      · exact Or.inr ⟨q, by omega, h2⟩
section MM
variable {th kd ow ag lk co sh hs tp hd rl : Nat → Int32} {ro : Nat → Int64} {rf ol ah tr od tk fo wi ou ge mo : Nat → Int32} {my ev se td fr to tn va im lo : Int32} {r : List AC × List AC × List AC} {Q : Option Value → AHp → Prop}
variable {n : Nat} {kN : Nat → Nat}
theorem pX5_odds {p : Int32} (hn : n ≤ 8) (hk : ∀ j, j < n → kd j = nI (kN j) ∧ kN j < 6) (ho : ∀ j, j < n → ow j ≠ -1) (hbad : inB p 0 11 = false → Q (some (.int (-2))) ((mC th kd ow ag lk co sh hs tp hd rl ro (upd rf 2 (rf 2 + 1)) ol ah tr od tk fo wi ou ge mo (nI n) ev se td fr to tn va im lo), r)) (hst : ∀ j, j < 12 → p = nI j → th j = -1 → Q (some (.int (-5))) ((mC th kd ow ag lk co sh hs tp hd rl ro (upd rf 5 (rf 5 + 1)) ol ah tr od tk fo wi ou ge mo (nI n) ev se td fr to tn va im lo), r)) (hok : ∀ j, j < 12 → p = nI j → th j ≠ -1 → ∀ (tr tk fo od : Nat → Int32) (lo : Int32), Q (some (.int (mlF (suF (fun k => (evR kN ow lk ag n th (nI k)).1 j != -1) (fun k => waF co (nI k) (fun l => nI l == -1) n) (2 ^ n)) (alF (fun l => nI l == -1) n)))) ((mC th kd ow ag lk co sh hs tp hd rl ro rf ol ah tr od tk fo wi ou ge mo (nI n) ev se td fr to tn va im lo), r)) : AMet mX5_odds 7 0 0 [.ref 0, .int p] ((mC th kd ow ag lk co sh hs tp hd rl ro rf ol ah tr od tk fo wi ou ge mo (nI n) ev se td fr to tn va im lo), r) Q := by
  refine AMet.ofRch rfl rfl (Nat.le_of_ble_eq_true rfl) ?_
  have h2 := p2_le hn
  have hgo : ∀ j, j < 12 → p = nI j → Rch (mX5_odds, 7, 0, 0, oQ Q) 0 0 14 [some (.ref 0), some (.int p), none, none, none] [] ((mC th kd ow ag lk co sh hs tp hd rl ro rf ol ah tr od tk fo wi ou ge mo (nI n) ev se td fr to tn va im lo), r) := by
    intro j hj e
    subst e
    by_cases g : th j = -1
    · refine r_aload_n dX5_odds_14 rfl ?_
      refine r_get bX5 0 (by decide) q1523 dX5_odds_15 rfl rfl ?_
      refine r_iload_n dX5_odds_18 rfl ?_
      refine r_ialdN dX5_odds_19 rfl (by omega) (Nat.le_of_ble_eq_true rfl) ?_
      refine r_iconst (-1) dX5_odds_20 (by decide) ?_
      refine r_icmp_ne 31 dX5_odds_21 (by decide) (fun c_ => absurd (g) c_) (fun _ => ?_)
      refine r_aload_n dX5_odds_24 rfl ?_
      refine r_bipush (-5) dX5_odds_25 (by decide) ?_
      refine r_callV (as := [_]) okX5_no bX5 rfl rfl q1633 dX5_odds_27 (Nat.le_of_ble_eq_true rfl) rfl (Nat.le_of_ble_eq_true rfl) (Nat.le_of_ble_eq_true rfl) (Nat.le_of_ble_eq_true rfl) (pX5_no 5 (by decide) (by decide) ?_)
      exact r_iret dX5_odds_30 rfl (Nat.le_of_ble_eq_true rfl) (Nat.le_of_ble_eq_true rfl) (hst j hj rfl g)
    · refine r_aload_n dX5_odds_14 rfl ?_
      refine r_get bX5 0 (by decide) q1523 dX5_odds_15 rfl rfl ?_
      refine r_iload_n dX5_odds_18 rfl ?_
      refine r_ialdN dX5_odds_19 rfl (by omega) (Nat.le_of_ble_eq_true rfl) ?_
      refine r_iconst (-1) dX5_odds_20 (by decide) ?_
      refine r_icmp_ne 31 dX5_odds_21 (by decide) (fun _ => ?_) (fun c_ => absurd c_ (g))
      refine r_lconst 0 dX5_odds_31 (by decide) ?_
      refine r_lstore_n dX5_odds_32 (Nat.le_of_ble_eq_true rfl) ?_
      refine r_iconst 0 dX5_odds_33 (by decide) ?_
      refine r_istore dX5_odds_34 (Nat.le_of_ble_eq_true rfl) ?_
      refine loopUp (N := 2 ^ n) (P := fun k => ∀ (tr tk fo od : Nat → Int32) (lo : Int32), Rch (mX5_odds, 7, 0, 0, oQ Q) 0 0 36 [some (.ref 0), some (.int (nI j)), some (.long (suF (fun k => (evR kN ow lk ag n th (nI k)).1 j != -1) (fun k => waF co (nI k) (fun l => nI l == -1) n) k)), none, some (.int (nI k))] [] ((mC th kd ow ag lk co sh hs tp hd rl ro rf ol ah tr od tk fo wi ou ge mo (nI n) ev se td fr to tn va im lo), r)) ?_ ?_ _ _ _ _ _
      · intro tr tk fo od lo
        refine r_iload dX5_odds_36 rfl ?_
        refine r_iconst 1 dX5_odds_38 (by decide) ?_
        refine r_aload_n dX5_odds_39 rfl ?_
        refine r_get bX5 1 (by decide) q1524 dX5_odds_40 rfl rfl ?_
        refine r_ishl dX5_odds_43 ?_
        rw [shl1 hn]
        refine r_icmp_ge 79 dX5_odds_44 (by decide) (fun _ => ?_) (fun c_ => absurd (Int32.le_refl _) c_)
        refine r_ldc2 q1888 dX5_odds_79 ?_
        refine r_lload_n dX5_odds_82 rfl ?_
        refine r_lmul dX5_odds_83 ?_
        refine r_aload_n dX5_odds_84 rfl ?_
        refine r_iconst (-1) dX5_odds_85 (by decide) ?_
        refine r_callV (as := [_]) okX5_allWays bX5 rfl rfl q1889 dX5_odds_86 (Nat.le_of_ble_eq_true rfl) rfl (Nat.le_of_ble_eq_true rfl) (Nat.le_of_ble_eq_true rfl) (Nat.le_of_ble_eq_true rfl) (pX5_allWays hn ?_)
        refine r_ldiv dX5_odds_89 (al_ne hn) ?_
        refine r_l2i dX5_odds_90 ?_
        exact r_iret dX5_odds_91 rfl (Nat.le_of_ble_eq_true rfl) (Nat.le_of_ble_eq_true rfl) (hok j hj rfl g _ _ _ _ _)
      · intro k hk2 ih tr tk fo od lo
        refine r_iload dX5_odds_36 rfl ?_
        refine r_iconst 1 dX5_odds_38 (by decide) ?_
        refine r_aload_n dX5_odds_39 rfl ?_
        refine r_get bX5 1 (by decide) q1524 dX5_odds_40 rfl rfl ?_
        refine r_ishl dX5_odds_43 ?_
        rw [shl1 hn]
        refine r_icmp_ge 79 dX5_odds_44 (by decide) (fun c_ => absurd c_ (geF hk2 (by omega))) (fun _ => ?_)
        refine r_aload_n dX5_odds_47 rfl ?_
        refine r_iload dX5_odds_48 rfl ?_
        refine r_callV (as := [_]) okX5_runs bX5 rfl rfl q1679 dX5_odds_50 (Nat.le_of_ble_eq_true rfl) rfl (Nat.le_of_ble_eq_true rfl) (Nat.le_of_ble_eq_true rfl) (Nat.le_of_ble_eq_true rfl) (pX5_runs hn hk ho (fun od2 hod => ?_))
        refine r_aload_n dX5_odds_53 rfl ?_
        refine r_get bX5 24 (by decide) q1547 dX5_odds_54 rfl rfl ?_
        refine r_iload_n dX5_odds_57 rfl ?_
        refine r_ialdN dX5_odds_58 rfl (by omega) (Nat.le_of_ble_eq_true rfl) ?_
        refine r_iconst (-1) dX5_odds_59 (by decide) ?_
        refine r_icmp_eq 73 dX5_odds_60 (by decide) (fun c_60 => ?_) (fun c_60 => ?_)
        · refine r_iincV dX5_odds_73 rfl (Nat.le_of_ble_eq_true rfl) (incN _) ?_
          refine r_goto 36 dX5_odds_76 (by decide) ?_
          first | (have q1 : ((evR kN ow lk ag n th (nI k)).1 j != -1) = false := (by rw [c_60]; rfl); simp only [suF, q1, Bool.false_eq_true, if_false] at ih; exact ih _ _ _ _ _) | (have q1 : ((evR kN ow lk ag n th (nI k)).1 j != -1) = true := bne_iff_ne.mpr c_60; simp only [suF, q1, if_true] at ih; exact ih _ _ _ _ _)
        · refine r_lload_n dX5_odds_63 rfl ?_
          refine r_aload_n dX5_odds_64 rfl ?_
          refine r_iload dX5_odds_65 rfl ?_
          refine r_iconst (-1) dX5_odds_67 (by decide) ?_
          refine r_callV (as := [_, _]) okX5_waysOf bX5 rfl rfl q1884 dX5_odds_68 (Nat.le_of_ble_eq_true rfl) rfl (Nat.le_of_ble_eq_true rfl) (Nat.le_of_ble_eq_true rfl) (Nat.le_of_ble_eq_true rfl) (pX5_waysOf hn ?_)
          refine r_ladd dX5_odds_71 ?_
          refine r_lstore_n dX5_odds_72 (Nat.le_of_ble_eq_true rfl) ?_
          refine r_iincV dX5_odds_73 rfl (Nat.le_of_ble_eq_true rfl) (incN _) ?_
          refine r_goto 36 dX5_odds_76 (by decide) ?_
          first | (have q1 : ((evR kN ow lk ag n th (nI k)).1 j != -1) = false := (by rw [c_60]; rfl); simp only [suF, q1, Bool.false_eq_true, if_false] at ih; exact ih _ _ _ _ _) | (have q1 : ((evR kN ow lk ag n th (nI k)).1 j != -1) = true := bne_iff_ne.mpr c_60; simp only [suF, q1, if_true] at ih; exact ih _ _ _ _ _)
  refine r_iload_n dX5_odds_0 rfl ?_
  refine r_callS (as := [_]) okX5_isPlace q1730 dX5_odds_1 (Nat.le_of_ble_eq_true rfl) rfl (Nat.le_of_ble_eq_true rfl) (Nat.le_of_ble_eq_true rfl) (Nat.le_of_ble_eq_true rfl) (pX5_isPlace ?_)
  refine r_if_ne 14 dX5_odds_4 (by decide) (fun c_4 => ?_) (fun c_4 => ?_)
  · obtain ⟨j, hj, e⟩ := inB_ex 11 (by decide) (b2i_n.mp c_4)
    exact hgo j (by omega) e
  · refine r_aload_n dX5_odds_7 rfl ?_
    refine r_bipush (-2) dX5_odds_8 (by decide) ?_
    refine r_callV (as := [_]) okX5_no bX5 rfl rfl q1633 dX5_odds_10 (Nat.le_of_ble_eq_true rfl) rfl (Nat.le_of_ble_eq_true rfl) (Nat.le_of_ble_eq_true rfl) (Nat.le_of_ble_eq_true rfl) (pX5_no 2 (by decide) (by decide) ?_)
    exact r_iret dX5_odds_13 rfl (Nat.le_of_ble_eq_true rfl) (Nat.le_of_ble_eq_true rfl) (hbad (b2i_0.mp c_4))
theorem pX5_likely {l : Int32} (hn : n ≤ 8) (hk : ∀ j, j < n → kd j = nI (kN j) ∧ kN j < 6) (ho : ∀ j, j < n → ow j ≠ -1) (hbad : inB l 0 (nI n - 1) = false → Q (some (.int (-2))) ((mC th kd ow ag lk co sh hs tp hd rl ro (upd rf 2 (rf 2 + 1)) ol ah tr od tk fo wi ou ge mo (nI n) ev se td fr to tn va im lo), r)) (hok : ∀ j, j < n → l = nI j → ∀ (tr tk fo od : Nat → Int32) (lo : Int32), Q (some (.int (mlF (suF (fun k => hasB (nI k) (nI j) && glF kN ow lk ag n th j (nI k)) (fun k => waF co (nI k) (fun i => nI i == nI j) n) (2 ^ n)) (alF (fun i => nI i == nI j) n)))) ((mC th kd ow ag lk co sh hs tp hd rl ro rf ol ah tr od tk fo wi ou ge mo (nI n) ev se td fr to tn va im lo), r)) : AMet mX5_likely 7 0 0 [.ref 0, .int l] ((mC th kd ow ag lk co sh hs tp hd rl ro rf ol ah tr od tk fo wi ou ge mo (nI n) ev se td fr to tn va im lo), r) Q := by
  refine AMet.ofRch rfl rfl (Nat.le_of_ble_eq_true rfl) ?_
  have h2 := p2_le hn
  have hgo : ∀ j, j < n → l = nI j → Rch (mX5_likely, 7, 0, 0, oQ Q) 0 0 15 [some (.ref 0), some (.int l), none, none, none] [] ((mC th kd ow ag lk co sh hs tp hd rl ro rf ol ah tr od tk fo wi ou ge mo (nI n) ev se td fr to tn va im lo), r) := by
    intro j hj e
    subst e
    refine r_lconst 0 dX5_likely_15 (by decide) ?_
    refine r_lstore_n dX5_likely_16 (Nat.le_of_ble_eq_true rfl) ?_
    refine r_iconst 0 dX5_likely_17 (by decide) ?_
    refine r_istore dX5_likely_18 (Nat.le_of_ble_eq_true rfl) ?_
    refine loopUp (N := 2 ^ n) (P := fun k => ∀ (tr tk fo od : Nat → Int32) (lo : Int32), Rch (mX5_likely, 7, 0, 0, oQ Q) 0 0 20 [some (.ref 0), some (.int (nI j)), some (.long (suF (fun k => hasB (nI k) (nI j) && glF kN ow lk ag n th j (nI k)) (fun k => waF co (nI k) (fun i => nI i == nI j) n) k)), none, some (.int (nI k))] [] ((mC th kd ow ag lk co sh hs tp hd rl ro rf ol ah tr od tk fo wi ou ge mo (nI n) ev se td fr to tn va im lo), r)) ?_ ?_ _ _ _ _ _
    · intro tr tk fo od lo
      refine r_iload dX5_likely_20 rfl ?_
      refine r_iconst 1 dX5_likely_22 (by decide) ?_
      refine r_aload_n dX5_likely_23 rfl ?_
      refine r_get bX5 1 (by decide) q1524 dX5_likely_24 rfl rfl ?_
      refine r_ishl dX5_likely_27 ?_
      rw [shl1 hn]
      refine r_icmp_ge 73 dX5_likely_28 (by decide) (fun _ => ?_) (fun c_ => absurd (Int32.le_refl _) c_)
      refine r_ldc2 q1888 dX5_likely_73 ?_
      refine r_lload_n dX5_likely_76 rfl ?_
      refine r_lmul dX5_likely_77 ?_
      refine r_aload_n dX5_likely_78 rfl ?_
      refine r_iload_n dX5_likely_79 rfl ?_
      refine r_callV (as := [_]) okX5_allWays bX5 rfl rfl q1889 dX5_likely_80 (Nat.le_of_ble_eq_true rfl) rfl (Nat.le_of_ble_eq_true rfl) (Nat.le_of_ble_eq_true rfl) (Nat.le_of_ble_eq_true rfl) (pX5_allWays hn ?_)
      refine r_ldiv dX5_likely_83 (al_ne hn) ?_
      refine r_l2i dX5_likely_84 ?_
      exact r_iret dX5_likely_85 rfl (Nat.le_of_ble_eq_true rfl) (Nat.le_of_ble_eq_true rfl) (hok j hj rfl _ _ _ _ _)
    · intro k hk2 ih tr tk fo od lo
      refine r_iload dX5_likely_20 rfl ?_
      refine r_iconst 1 dX5_likely_22 (by decide) ?_
      refine r_aload_n dX5_likely_23 rfl ?_
      refine r_get bX5 1 (by decide) q1524 dX5_likely_24 rfl rfl ?_
      refine r_ishl dX5_likely_27 ?_
      rw [shl1 hn]
      refine r_icmp_ge 73 dX5_likely_28 (by decide) (fun c_ => absurd c_ (geF hk2 (by omega))) (fun _ => ?_)
      refine r_iload dX5_likely_31 rfl ?_
      refine r_iload_n dX5_likely_33 rfl ?_
      refine r_callS (as := [_, _]) okX5_in q1691 dX5_likely_34 (Nat.le_of_ble_eq_true rfl) rfl (Nat.le_of_ble_eq_true rfl) (Nat.le_of_ble_eq_true rfl) (Nat.le_of_ble_eq_true rfl) (pX5_in ?_)
      refine r_if_ne 43 dX5_likely_37 (by decide) (fun c_37 => ?_) (fun c_37 => ?_)
      · refine r_aload_n dX5_likely_43 rfl ?_
        refine r_iload dX5_likely_44 rfl ?_
        refine r_callV (as := [_]) okX5_runs bX5 rfl rfl q1679 dX5_likely_46 (Nat.le_of_ble_eq_true rfl) rfl (Nat.le_of_ble_eq_true rfl) (Nat.le_of_ble_eq_true rfl) (Nat.le_of_ble_eq_true rfl) (pX5_runs hn hk ho (fun od2 hod => ?_))
        refine r_aload_n dX5_likely_49 rfl ?_
        refine r_iload_n dX5_likely_50 rfl ?_
        refine r_callV (as := [_]) okX5_isGlad bX5 rfl rfl q1844 dX5_likely_51 (Nat.le_of_ble_eq_true rfl) rfl (Nat.le_of_ble_eq_true rfl) (Nat.le_of_ble_eq_true rfl) (Nat.le_of_ble_eq_true rfl) (pX5_isGlad (by omega) ?_)
        refine r_if_eq 67 dX5_likely_54 (by decide) (fun c_54 => ?_) (fun c_54 => ?_)
        · refine r_iincV dX5_likely_67 rfl (Nat.le_of_ble_eq_true rfl) (incN _) ?_
          refine r_goto 20 dX5_likely_70 (by decide) ?_
          first | (have q1 := b2i_0.mp c_37; simp only [suF, q1, Bool.false_and, Bool.false_eq_true, if_false] at ih; exact ih _ _ _ _ _) | (have q1 := b2i_n.mp c_37; have q2 : glF kN ow lk ag n th j (nI k) = false := b2i_0.mp c_54; simp only [suF, q1, q2, Bool.and_false, Bool.false_eq_true, if_false] at ih; exact ih _ _ _ _ _) | (have q1 := b2i_n.mp c_37; have q2 : glF kN ow lk ag n th j (nI k) = true := b2i_n.mp c_54; simp only [suF, q1, q2, Bool.and_self, if_true] at ih; exact ih _ _ _ _ _)
        · refine r_lload_n dX5_likely_57 rfl ?_
          refine r_aload_n dX5_likely_58 rfl ?_
          refine r_iload dX5_likely_59 rfl ?_
          refine r_iload_n dX5_likely_61 rfl ?_
          refine r_callV (as := [_, _]) okX5_waysOf bX5 rfl rfl q1884 dX5_likely_62 (Nat.le_of_ble_eq_true rfl) rfl (Nat.le_of_ble_eq_true rfl) (Nat.le_of_ble_eq_true rfl) (Nat.le_of_ble_eq_true rfl) (pX5_waysOf hn ?_)
          refine r_ladd dX5_likely_65 ?_
          refine r_lstore_n dX5_likely_66 (Nat.le_of_ble_eq_true rfl) ?_
          refine r_iincV dX5_likely_67 rfl (Nat.le_of_ble_eq_true rfl) (incN _) ?_
          refine r_goto 20 dX5_likely_70 (by decide) ?_
          first | (have q1 := b2i_0.mp c_37; simp only [suF, q1, Bool.false_and, Bool.false_eq_true, if_false] at ih; exact ih _ _ _ _ _) | (have q1 := b2i_n.mp c_37; have q2 : glF kN ow lk ag n th j (nI k) = false := b2i_0.mp c_54; simp only [suF, q1, q2, Bool.and_false, Bool.false_eq_true, if_false] at ih; exact ih _ _ _ _ _) | (have q1 := b2i_n.mp c_37; have q2 : glF kN ow lk ag n th j (nI k) = true := b2i_n.mp c_54; simp only [suF, q1, q2, Bool.and_self, if_true] at ih; exact ih _ _ _ _ _)
      · refine r_goto 67 dX5_likely_40 (by decide) ?_
        refine r_iincV dX5_likely_67 rfl (Nat.le_of_ble_eq_true rfl) (incN _) ?_
        refine r_goto 20 dX5_likely_70 (by decide) ?_
        first | (have q1 := b2i_0.mp c_37; simp only [suF, q1, Bool.false_and, Bool.false_eq_true, if_false] at ih; exact ih _ _ _ _ _) | (have q1 := b2i_n.mp c_37; have q2 : glF kN ow lk ag n th j (nI k) = false := b2i_0.mp c_54; simp only [suF, q1, q2, Bool.and_false, Bool.false_eq_true, if_false] at ih; exact ih _ _ _ _ _) | (have q1 := b2i_n.mp c_37; have q2 : glF kN ow lk ag n th j (nI k) = true := b2i_n.mp c_54; simp only [suF, q1, q2, Bool.and_self, if_true] at ih; exact ih _ _ _ _ _)
  refine r_aload_n dX5_likely_0 rfl ?_
  refine r_iload_n dX5_likely_1 rfl ?_
  refine r_callV (as := [_]) okX5_isLooker bX5 rfl rfl q1668 dX5_likely_2 (Nat.le_of_ble_eq_true rfl) rfl (Nat.le_of_ble_eq_true rfl) (Nat.le_of_ble_eq_true rfl) (Nat.le_of_ble_eq_true rfl) (pX5_isLooker ?_)
  refine r_if_ne 15 dX5_likely_5 (by decide) (fun c_5 => ?_) (fun c_5 => ?_)
  · obtain ⟨j, hj, e⟩ := inB_m (b2i_n.mp c_5) (by omega)
    exact hgo j hj e
  · refine r_aload_n dX5_likely_8 rfl ?_
    refine r_bipush (-2) dX5_likely_9 (by decide) ?_
    refine r_callV (as := [_]) okX5_no bX5 rfl rfl q1633 dX5_likely_11 (Nat.le_of_ble_eq_true rfl) rfl (Nat.le_of_ble_eq_true rfl) (Nat.le_of_ble_eq_true rfl) (Nat.le_of_ble_eq_true rfl) (pX5_no 2 (by decide) (by decide) ?_)
    exact r_iret dX5_likely_14 rfl (Nat.le_of_ble_eq_true rfl) (Nat.le_of_ble_eq_true rfl) (hbad (b2i_0.mp c_5))
theorem pX5_gladOdds {m : Int32} (hn : n ≤ 8) (hk : ∀ j, j < n → kd j = nI (kN j) ∧ kN j < 6) (ho : ∀ j, j < n → ow j ≠ -1) (hbad : inB m 0 8 = false → Q (some (.int (-2))) ((mC th kd ow ag lk co sh hs tp hd rl ro (upd rf 2 (rf 2 + 1)) ol ah tr od tk fo wi ou ge mo (nI n) ev se td fr to tn va im lo), r)) (hok : inB m 0 8 = true → ∀ (tr tk fo od : Nat → Int32) (lo : Int32), Q (some (.int (mlF (suF (fun k => decide (m ≤ gcF kN ow lk ag n th (nI k))) (fun k => waF co (nI k) (fun l => nI l == -1) n) (2 ^ n)) (alF (fun l => nI l == -1) n)))) ((mC th kd ow ag lk co sh hs tp hd rl ro rf ol ah tr od tk fo wi ou ge mo (nI n) ev se td fr to tn va im lo), r)) : AMet mX5_gladOdds 7 0 0 [.ref 0, .int m] ((mC th kd ow ag lk co sh hs tp hd rl ro rf ol ah tr od tk fo wi ou ge mo (nI n) ev se td fr to tn va im lo), r) Q := by
  refine AMet.ofRch rfl rfl (Nat.le_of_ble_eq_true rfl) ?_
  have h2 := p2_le hn
  have hgo : inB m 0 8 = true → Rch (mX5_gladOdds, 7, 0, 0, oQ Q) 0 0 17 [some (.ref 0), some (.int m), none, none, none] [] ((mC th kd ow ag lk co sh hs tp hd rl ro rf ol ah tr od tk fo wi ou ge mo (nI n) ev se td fr to tn va im lo), r) := by
    intro g
    refine r_lconst 0 dX5_gladOdds_17 (by decide) ?_
    refine r_lstore_n dX5_gladOdds_18 (Nat.le_of_ble_eq_true rfl) ?_
    refine r_iconst 0 dX5_gladOdds_19 (by decide) ?_
    refine r_istore dX5_gladOdds_20 (Nat.le_of_ble_eq_true rfl) ?_
    refine loopUp (N := 2 ^ n) (P := fun k => ∀ (tr tk fo od : Nat → Int32) (lo : Int32), Rch (mX5_gladOdds, 7, 0, 0, oQ Q) 0 0 22 [some (.ref 0), some (.int m), some (.long (suF (fun k => decide (m ≤ gcF kN ow lk ag n th (nI k))) (fun k => waF co (nI k) (fun l => nI l == -1) n) k)), none, some (.int (nI k))] [] ((mC th kd ow ag lk co sh hs tp hd rl ro rf ol ah tr od tk fo wi ou ge mo (nI n) ev se td fr to tn va im lo), r)) ?_ ?_ _ _ _ _ _
    · intro tr tk fo od lo
      refine r_iload dX5_gladOdds_22 rfl ?_
      refine r_iconst 1 dX5_gladOdds_24 (by decide) ?_
      refine r_aload_n dX5_gladOdds_25 rfl ?_
      refine r_get bX5 1 (by decide) q1524 dX5_gladOdds_26 rfl rfl ?_
      refine r_ishl dX5_gladOdds_29 ?_
      rw [shl1 hn]
      refine r_icmp_ge 59 dX5_gladOdds_30 (by decide) (fun _ => ?_) (fun c_ => absurd (Int32.le_refl _) c_)
      refine r_ldc2 q1888 dX5_gladOdds_59 ?_
      refine r_lload_n dX5_gladOdds_62 rfl ?_
      refine r_lmul dX5_gladOdds_63 ?_
      refine r_aload_n dX5_gladOdds_64 rfl ?_
      refine r_iconst (-1) dX5_gladOdds_65 (by decide) ?_
      refine r_callV (as := [_]) okX5_allWays bX5 rfl rfl q1889 dX5_gladOdds_66 (Nat.le_of_ble_eq_true rfl) rfl (Nat.le_of_ble_eq_true rfl) (Nat.le_of_ble_eq_true rfl) (Nat.le_of_ble_eq_true rfl) (pX5_allWays hn ?_)
      refine r_ldiv dX5_gladOdds_69 (al_ne hn) ?_
      refine r_l2i dX5_gladOdds_70 ?_
      exact r_iret dX5_gladOdds_71 rfl (Nat.le_of_ble_eq_true rfl) (Nat.le_of_ble_eq_true rfl) (hok g _ _ _ _ _)
    · intro k hk2 ih tr tk fo od lo
      refine r_iload dX5_gladOdds_22 rfl ?_
      refine r_iconst 1 dX5_gladOdds_24 (by decide) ?_
      refine r_aload_n dX5_gladOdds_25 rfl ?_
      refine r_get bX5 1 (by decide) q1524 dX5_gladOdds_26 rfl rfl ?_
      refine r_ishl dX5_gladOdds_29 ?_
      rw [shl1 hn]
      refine r_icmp_ge 59 dX5_gladOdds_30 (by decide) (fun c_ => absurd c_ (geF hk2 (by omega))) (fun _ => ?_)
      refine r_aload_n dX5_gladOdds_33 rfl ?_
      refine r_iload dX5_gladOdds_34 rfl ?_
      refine r_callV (as := [_]) okX5_gladOf bX5 rfl rfl q1840 dX5_gladOdds_36 (Nat.le_of_ble_eq_true rfl) rfl (Nat.le_of_ble_eq_true rfl) (Nat.le_of_ble_eq_true rfl) (Nat.le_of_ble_eq_true rfl) (pX5_gladOf hn hk ho (fun od2 hod => ?_))
      refine r_iload_n dX5_gladOdds_39 rfl ?_
      refine r_icmp_lt 53 dX5_gladOdds_40 (by decide) (fun c_40 => ?_) (fun c_40 => ?_)
      · refine r_iincV dX5_gladOdds_53 rfl (Nat.le_of_ble_eq_true rfl) (incN _) ?_
        refine r_goto 22 dX5_gladOdds_56 (by decide) ?_
        first | (have q1 : ¬ m ≤ gcF kN ow lk ag n th (nI k) := Int32.not_le.mpr c_40; simp only [suF, q1, decide_false, Bool.false_eq_true, if_false] at ih; exact ih _ _ _ _ _) | (have q1 : m ≤ gcF kN ow lk ag n th (nI k) := Int32.not_lt.mp c_40; simp only [suF, q1, decide_true, if_true] at ih; exact ih _ _ _ _ _)
      · refine r_lload_n dX5_gladOdds_43 rfl ?_
        refine r_aload_n dX5_gladOdds_44 rfl ?_
        refine r_iload dX5_gladOdds_45 rfl ?_
        refine r_iconst (-1) dX5_gladOdds_47 (by decide) ?_
        refine r_callV (as := [_, _]) okX5_waysOf bX5 rfl rfl q1884 dX5_gladOdds_48 (Nat.le_of_ble_eq_true rfl) rfl (Nat.le_of_ble_eq_true rfl) (Nat.le_of_ble_eq_true rfl) (Nat.le_of_ble_eq_true rfl) (pX5_waysOf hn ?_)
        refine r_ladd dX5_gladOdds_51 ?_
        refine r_lstore_n dX5_gladOdds_52 (Nat.le_of_ble_eq_true rfl) ?_
        refine r_iincV dX5_gladOdds_53 rfl (Nat.le_of_ble_eq_true rfl) (incN _) ?_
        refine r_goto 22 dX5_gladOdds_56 (by decide) ?_
        first | (have q1 : ¬ m ≤ gcF kN ow lk ag n th (nI k) := Int32.not_le.mpr c_40; simp only [suF, q1, decide_false, Bool.false_eq_true, if_false] at ih; exact ih _ _ _ _ _) | (have q1 : m ≤ gcF kN ow lk ag n th (nI k) := Int32.not_lt.mp c_40; simp only [suF, q1, decide_true, if_true] at ih; exact ih _ _ _ _ _)
  refine r_iload_n dX5_gladOdds_0 rfl ?_
  refine r_iconst 0 dX5_gladOdds_1 (by decide) ?_
  refine r_bipush 8 dX5_gladOdds_2 (by decide) ?_
  refine r_callS (as := [_, _, _]) okX5_within q1630 dX5_gladOdds_4 (Nat.le_of_ble_eq_true rfl) rfl (Nat.le_of_ble_eq_true rfl) (Nat.le_of_ble_eq_true rfl) (Nat.le_of_ble_eq_true rfl) (pX5_within ?_)
  refine r_if_ne 17 dX5_gladOdds_7 (by decide) (fun c_7 => ?_) (fun c_7 => ?_)
  · exact hgo (b2i_n.mp c_7)
  · refine r_aload_n dX5_gladOdds_10 rfl ?_
    refine r_bipush (-2) dX5_gladOdds_11 (by decide) ?_
    refine r_callV (as := [_]) okX5_no bX5 rfl rfl q1633 dX5_gladOdds_13 (Nat.le_of_ble_eq_true rfl) rfl (Nat.le_of_ble_eq_true rfl) (Nat.le_of_ble_eq_true rfl) (Nat.le_of_ble_eq_true rfl) (pX5_no 2 (by decide) (by decide) ?_)
    exact r_iret dX5_gladOdds_16 rfl (Nat.le_of_ble_eq_true rfl) (Nat.le_of_ble_eq_true rfl) (hbad (b2i_0.mp c_7))
theorem pX5_meanLeft (hn : n ≤ 8) (hk : ∀ j, j < n → kd j = nI (kN j) ∧ kN j < 6) (ho : ∀ j, j < n → ow j ≠ -1) (hQ : ∀ (tr tk fo od : Nat → Int32) (lo : Int32), Q (some (.int (1000 * suF (fun _ => true) (fun k => waF co (nI k) (fun l => nI l == -1) n * (bcF (leF kN ow lk ag n th (nI k))).toInt64) (2 ^ n) / alF (fun l => nI l == -1) n).toInt32)) ((mC th kd ow ag lk co sh hs tp hd rl ro rf ol ah tr od tk fo wi ou ge mo (nI n) ev se td fr to tn va im lo), r)) : AMet mX5_meanLeft 7 0 0 [.ref 0] ((mC th kd ow ag lk co sh hs tp hd rl ro rf ol ah tr od tk fo wi ou ge mo (nI n) ev se td fr to tn va im lo), r) Q := by
  refine AMet.ofRch rfl rfl (Nat.le_of_ble_eq_true rfl) ?_
  have h2 := p2_le hn
  refine r_lconst 0 dX5_meanLeft_0 (by decide) ?_
  refine r_lstore_n dX5_meanLeft_1 (Nat.le_of_ble_eq_true rfl) ?_
  refine r_iconst 0 dX5_meanLeft_2 (by decide) ?_
  refine r_istore_n dX5_meanLeft_3 (Nat.le_of_ble_eq_true rfl) ?_
  refine loopUp (N := 2 ^ n) (P := fun k => ∀ (tr tk fo od : Nat → Int32) (lo : Int32), Rch (mX5_meanLeft, 7, 0, 0, oQ Q) 0 0 4 [some (.ref 0), some (.long (suF (fun _ => true) (fun k => waF co (nI k) (fun l => nI l == -1) n * (bcF (leF kN ow lk ag n th (nI k))).toInt64) k)), none, some (.int (nI k))] [] ((mC th kd ow ag lk co sh hs tp hd rl ro rf ol ah tr od tk fo wi ou ge mo (nI n) ev se td fr to tn va im lo), r)) ?_ ?_ _ _ _ _ _
  · intro tr tk fo od lo
    refine r_iload_n dX5_meanLeft_4 rfl ?_
    refine r_iconst 1 dX5_meanLeft_5 (by decide) ?_
    refine r_aload_n dX5_meanLeft_6 rfl ?_
    refine r_get bX5 1 (by decide) q1524 dX5_meanLeft_7 rfl rfl ?_
    refine r_ishl dX5_meanLeft_10 ?_
    rw [shl1 hn]
    refine r_icmp_ge 43 dX5_meanLeft_11 (by decide) (fun _ => ?_) (fun c_ => absurd (Int32.le_refl _) c_)
    refine r_ldc2 q1906 dX5_meanLeft_43 ?_
    refine r_lload_n dX5_meanLeft_46 rfl ?_
    refine r_lmul dX5_meanLeft_47 ?_
    refine r_aload_n dX5_meanLeft_48 rfl ?_
    refine r_iconst (-1) dX5_meanLeft_49 (by decide) ?_
    refine r_callV (as := [_]) okX5_allWays bX5 rfl rfl q1889 dX5_meanLeft_50 (Nat.le_of_ble_eq_true rfl) rfl (Nat.le_of_ble_eq_true rfl) (Nat.le_of_ble_eq_true rfl) (Nat.le_of_ble_eq_true rfl) (pX5_allWays hn ?_)
    refine r_ldiv dX5_meanLeft_53 (al_ne hn) ?_
    refine r_l2i dX5_meanLeft_54 ?_
    exact r_iret dX5_meanLeft_55 rfl (Nat.le_of_ble_eq_true rfl) (Nat.le_of_ble_eq_true rfl) (hQ _ _ _ _ _)
  · intro k hk2 ih tr tk fo od lo
    refine r_iload_n dX5_meanLeft_4 rfl ?_
    refine r_iconst 1 dX5_meanLeft_5 (by decide) ?_
    refine r_aload_n dX5_meanLeft_6 rfl ?_
    refine r_get bX5 1 (by decide) q1524 dX5_meanLeft_7 rfl rfl ?_
    refine r_ishl dX5_meanLeft_10 ?_
    rw [shl1 hn]
    refine r_icmp_ge 43 dX5_meanLeft_11 (by decide) (fun c_ => absurd c_ (geF hk2 (by omega))) (fun _ => ?_)
    refine r_aload_n dX5_meanLeft_14 rfl ?_
    refine r_iload_n dX5_meanLeft_15 rfl ?_
    refine r_callV (as := [_]) okX5_runs bX5 rfl rfl q1679 dX5_meanLeft_16 (Nat.le_of_ble_eq_true rfl) rfl (Nat.le_of_ble_eq_true rfl) (Nat.le_of_ble_eq_true rfl) (Nat.le_of_ble_eq_true rfl) (pX5_runs hn hk ho (fun od2 hod => ?_))
    refine r_lload_n dX5_meanLeft_19 rfl ?_
    refine r_aload_n dX5_meanLeft_20 rfl ?_
    refine r_iload_n dX5_meanLeft_21 rfl ?_
    refine r_iconst (-1) dX5_meanLeft_22 (by decide) ?_
    refine r_callV (as := [_, _]) okX5_waysOf bX5 rfl rfl q1884 dX5_meanLeft_23 (Nat.le_of_ble_eq_true rfl) rfl (Nat.le_of_ble_eq_true rfl) (Nat.le_of_ble_eq_true rfl) (Nat.le_of_ble_eq_true rfl) (pX5_waysOf hn ?_)
    refine r_aload_n dX5_meanLeft_26 rfl ?_
    refine r_callV (as := []) okX5_leftThen bX5 rfl rfl q1828 dX5_meanLeft_27 (Nat.le_of_ble_eq_true rfl) rfl (Nat.le_of_ble_eq_true rfl) (Nat.le_of_ble_eq_true rfl) (Nat.le_of_ble_eq_true rfl) (pX5_leftThen ?_)
    refine r_callS (as := [_]) okJ18_bitCount q1852 dX5_meanLeft_30 (Nat.le_of_ble_eq_true rfl) rfl (Nat.le_of_ble_eq_true rfl) (Nat.le_of_ble_eq_true rfl) (Nat.le_of_ble_eq_true rfl) (pJ18_bitCount ?_)
    refine r_i2l dX5_meanLeft_33 ?_
    refine r_lmul dX5_meanLeft_34 ?_
    refine r_ladd dX5_meanLeft_35 ?_
    refine r_lstore_n dX5_meanLeft_36 (Nat.le_of_ble_eq_true rfl) ?_
    refine r_iincV dX5_meanLeft_37 rfl (Nat.le_of_ble_eq_true rfl) (incN _) ?_
    refine r_goto 4 dX5_meanLeft_40 (by decide) ?_
    simp only [suF, if_true] at ih
    exact ih _ _ _ _ _
theorem pX5_places (hQ : Q (some (.int (bitsI (fun p => th p != -1) 12))) ((mC th kd ow ag lk co sh hs tp hd rl ro rf ol ah tr od tk fo wi ou ge mo my ev se td fr to tn va im lo), r)) : AMet mX5_places 1 0 0 [.ref 0] ((mC th kd ow ag lk co sh hs tp hd rl ro rf ol ah tr od tk fo wi ou ge mo my ev se td fr to tn va im lo), r) Q := by
  refine AMet.ofRch rfl rfl (Nat.le_of_ble_eq_true rfl) ?_
  refine r_iconst 0 dX5_places_0 (by decide) ?_
  refine r_istore_n dX5_places_1 (Nat.le_of_ble_eq_true rfl) ?_
  refine r_iconst 0 dX5_places_2 (by decide) ?_
  refine r_istore_n dX5_places_3 (Nat.le_of_ble_eq_true rfl) ?_
  refine loopUp (N := 12) (P := fun k => Rch (mX5_places, 1, 0, 0, oQ Q) 0 0 4 [some (.ref 0), some (.int (bitsI (fun p => th p != -1) k)), some (.int (nI k))] [] ((mC th kd ow ag lk co sh hs tp hd rl ro rf ol ah tr od tk fo wi ou ge mo my ev se td fr to tn va im lo), r)) ?_ ?_
  · refine r_iload_n dX5_places_4 rfl ?_
    refine r_bipush 12 dX5_places_5 (by decide) ?_
    refine r_icmp_ge 32 dX5_places_7 (by decide) (fun _ => ?_) (fun c_ => absurd (geT 12) c_)
    refine r_iload_n dX5_places_32 rfl ?_
    exact r_iret dX5_places_33 rfl (Nat.le_of_ble_eq_true rfl) (Nat.le_of_ble_eq_true rfl) (hQ)
  · intro k hk ih
    refine r_iload_n dX5_places_4 rfl ?_
    refine r_bipush 12 dX5_places_5 (by decide) ?_
    refine r_icmp_ge 32 dX5_places_7 (by decide) (fun c_ => absurd c_ (geF hk (by decide))) (fun _ => ?_)
    refine r_aload_n dX5_places_10 rfl ?_
    refine r_get bX5 0 (by decide) q1523 dX5_places_11 rfl rfl ?_
    refine r_iload_n dX5_places_14 rfl ?_
    refine r_ialdN dX5_places_15 rfl (by omega) (Nat.le_of_ble_eq_true rfl) ?_
    refine r_iconst (-1) dX5_places_16 (by decide) ?_
    refine r_icmp_eq 26 dX5_places_17 (by decide) (fun c_17 => ?_) (fun c_17 => ?_)
    · refine r_iincV dX5_places_26 rfl (Nat.le_of_ble_eq_true rfl) (incN _) ?_
      refine r_goto 4 dX5_places_29 (by decide) ?_
      simp only [bitsI, bne_iff_ne, ne_eq, c_17, not_true, not_false_iff, if_true, if_false, or0] at ih
      exact ih
    · refine r_iload_n dX5_places_20 rfl ?_
      refine r_iconst 1 dX5_places_21 (by decide) ?_
      refine r_iload_n dX5_places_22 rfl ?_
      refine r_ishl dX5_places_23 ?_
      refine r_ior dX5_places_24 ?_
      refine r_istore_n dX5_places_25 (Nat.le_of_ble_eq_true rfl) ?_
      refine r_iincV dX5_places_26 rfl (Nat.le_of_ble_eq_true rfl) (incN _) ?_
      refine r_goto 4 dX5_places_29 (by decide) ?_
      simp only [bitsI, bne_iff_ne, ne_eq, c_17, not_true, not_false_iff, if_true, if_false, or0] at ih
      exact ih
theorem pX5_inWindow {s : Int32} (hQ : Q (some (.int (cnF th s))) ((mC th kd ow ag lk co sh hs tp hd rl ro rf ol ah tr od tk fo wi ou ge mo my ev se td fr to tn va im lo), r)) : AMet mX5_inWindow 1 0 0 [.ref 0, .int s] ((mC th kd ow ag lk co sh hs tp hd rl ro rf ol ah tr od tk fo wi ou ge mo my ev se td fr to tn va im lo), r) Q := by
  refine AMet.ofRch rfl rfl (Nat.le_of_ble_eq_true rfl) ?_
  refine r_iconst 0 dX5_inWindow_0 (by decide) ?_
  refine r_istore_n dX5_inWindow_1 (Nat.le_of_ble_eq_true rfl) ?_
  refine r_iconst 0 dX5_inWindow_2 (by decide) ?_
  refine r_istore_n dX5_inWindow_3 (Nat.le_of_ble_eq_true rfl) ?_
  refine loopUp (N := 12) (P := fun k => Rch (mX5_inWindow, 1, 0, 0, oQ Q) 0 0 4 [some (.ref 0), some (.int s), some (.int (nI (cntI (fun p => th p == s) k))), some (.int (nI k))] [] ((mC th kd ow ag lk co sh hs tp hd rl ro rf ol ah tr od tk fo wi ou ge mo my ev se td fr to tn va im lo), r)) ?_ ?_
  · refine r_iload_n dX5_inWindow_4 rfl ?_
    refine r_bipush 12 dX5_inWindow_5 (by decide) ?_
    refine r_icmp_ge 29 dX5_inWindow_7 (by decide) (fun _ => ?_) (fun c_ => absurd (geT 12) c_)
    refine r_iload_n dX5_inWindow_29 rfl ?_
    exact r_iret dX5_inWindow_30 rfl (Nat.le_of_ble_eq_true rfl) (Nat.le_of_ble_eq_true rfl) (hQ)
  · intro k hk ih
    refine r_iload_n dX5_inWindow_4 rfl ?_
    refine r_bipush 12 dX5_inWindow_5 (by decide) ?_
    refine r_icmp_ge 29 dX5_inWindow_7 (by decide) (fun c_ => absurd c_ (geF hk (by decide))) (fun _ => ?_)
    refine r_aload_n dX5_inWindow_10 rfl ?_
    refine r_get bX5 0 (by decide) q1523 dX5_inWindow_11 rfl rfl ?_
    refine r_iload_n dX5_inWindow_14 rfl ?_
    refine r_ialdN dX5_inWindow_15 rfl (by omega) (Nat.le_of_ble_eq_true rfl) ?_
    refine r_iload_n dX5_inWindow_16 rfl ?_
    refine r_icmp_ne 23 dX5_inWindow_17 (by decide) (fun c_17 => ?_) (fun c_17 => ?_)
    · refine r_iincV dX5_inWindow_23 rfl (Nat.le_of_ble_eq_true rfl) (incN _) ?_
      refine r_goto 4 dX5_inWindow_26 (by decide) ?_
      simp only [cntI, beq_iff_eq, c_17, if_true, if_false, Nat.add_zero] at ih
      exact ih
    · refine r_iincV dX5_inWindow_20 rfl (Nat.le_of_ble_eq_true rfl) (incN _) ?_
      refine r_iincV dX5_inWindow_23 rfl (Nat.le_of_ble_eq_true rfl) (incN _) ?_
      refine r_goto 4 dX5_inWindow_26 (by decide) ?_
      simp only [cntI, beq_iff_eq, c_17, if_true, if_false, Nat.add_zero] at ih
      exact ih
theorem pX5_sorts {s w : Int32} (hn : n ≤ 8) (hbad : (inB s 0 7 && inB w 0 2) = false → Q (some (.int (-2))) ((mC th kd ow ag lk co sh hs tp hd rl ro (upd rf 2 (rf 2 + 1)) ol ah tr od tk fo wi ou ge mo (nI n) ev se td fr to tn va im lo), r)) (h0 : inB s 0 7 = true → w = 0 → Q (some (.int (cnF th s))) ((mC th kd ow ag lk co sh hs tp hd rl ro rf ol ah tr od tk fo wi ou ge mo (nI n) ev se td fr to tn va im lo), r)) (h1 : inB s 0 7 = true → inB w 0 2 = true → w ≠ 0 → Q (some (.int (nI (cntI (fun l => if w = 1 then likeB (ow l) (lk l) s else ow l == s) n)))) ((mC th kd ow ag lk co sh hs tp hd rl ro rf ol ah tr od tk fo wi ou ge mo (nI n) ev se td fr to tn va im lo), r)) : AMet mX5_sorts 3 0 0 [.ref 0, .int s, .int w] ((mC th kd ow ag lk co sh hs tp hd rl ro rf ol ah tr od tk fo wi ou ge mo (nI n) ev se td fr to tn va im lo), r) Q := by
  refine AMet.ofRch rfl rfl (Nat.le_of_ble_eq_true rfl) ?_
  have hgo : inB s 0 7 = true → inB w 0 2 = true → w ≠ 0 → Rch (mX5_sorts, 3, 0, 0, oQ Q) 0 0 33 [some (.ref 0), some (.int s), some (.int w), none, none] [] ((mC th kd ow ag lk co sh hs tp hd rl ro rf ol ah tr od tk fo wi ou ge mo (nI n) ev se td fr to tn va im lo), r) := by
    intro g1 g2 g3
    refine r_iconst 0 dX5_sorts_33 (by decide) ?_
    refine r_istore_n dX5_sorts_34 (Nat.le_of_ble_eq_true rfl) ?_
    refine r_iconst 0 dX5_sorts_35 (by decide) ?_
    refine r_istore dX5_sorts_36 (Nat.le_of_ble_eq_true rfl) ?_
    refine loopUp (N := n) (P := fun k => Rch (mX5_sorts, 3, 0, 0, oQ Q) 0 0 38 [some (.ref 0), some (.int s), some (.int w), some (.int (nI (cntI (fun l => if w = 1 then likeB (ow l) (lk l) s else ow l == s) k))), some (.int (nI k))] [] ((mC th kd ow ag lk co sh hs tp hd rl ro rf ol ah tr od tk fo wi ou ge mo (nI n) ev se td fr to tn va im lo), r)) ?_ ?_
    · refine r_iload dX5_sorts_38 rfl ?_
      refine r_aload_n dX5_sorts_40 rfl ?_
      refine r_get bX5 1 (by decide) q1524 dX5_sorts_41 rfl rfl ?_
      refine r_icmp_ge 85 dX5_sorts_44 (by decide) (fun _ => ?_) (fun c_ => absurd (Int32.le_refl _) c_)
      refine r_iload_n dX5_sorts_85 rfl ?_
      exact r_iret dX5_sorts_86 rfl (Nat.le_of_ble_eq_true rfl) (Nat.le_of_ble_eq_true rfl) (h1 g1 g2 g3)
    · intro k hk2 ih
      refine r_iload dX5_sorts_38 rfl ?_
      refine r_aload_n dX5_sorts_40 rfl ?_
      refine r_get bX5 1 (by decide) q1524 dX5_sorts_41 rfl rfl ?_
      refine r_icmp_ge 85 dX5_sorts_44 (by decide) (fun c_ => absurd c_ (geF hk2 (by omega))) (fun _ => ?_)
      refine r_iload_n dX5_sorts_47 rfl ?_
      refine r_iconst 1 dX5_sorts_48 (by decide) ?_
      refine r_icmp_ne 65 dX5_sorts_49 (by decide) (fun c_49 => ?_) (fun c_49 => ?_)
      · refine r_aload_n dX5_sorts_65 rfl ?_
        refine r_get bX5 3 (by decide) q1526 dX5_sorts_66 rfl rfl ?_
        refine r_iload dX5_sorts_69 rfl ?_
        refine r_ialdN dX5_sorts_71 rfl (by omega) (Nat.le_of_ble_eq_true rfl) ?_
        refine r_iload_n dX5_sorts_72 rfl ?_
        refine r_icmp_ne 79 dX5_sorts_73 (by decide) (fun c_73 => ?_) (fun c_73 => ?_)
        · refine r_iincV dX5_sorts_79 rfl (Nat.le_of_ble_eq_true rfl) (incN _) ?_
          refine r_goto 38 dX5_sorts_82 (by decide) ?_
          first | (have q1 : (if w = 1 then likeB (ow k) (lk k) s else ow k == s) = false := (by rw [if_pos c_49]; exact b2i_0.mp c_59); simp only [cntI, q1, Bool.false_eq_true, if_false, Nat.add_zero] at ih; exact ih) | (have q1 : (if w = 1 then likeB (ow k) (lk k) s else ow k == s) = true := (by rw [if_pos c_49]; exact b2i_n.mp c_59); simp only [cntI, q1, if_true] at ih; exact ih) | (have q1 : (if w = 1 then likeB (ow k) (lk k) s else ow k == s) = false := (by rw [if_neg c_49]; exact beq_eq_false_iff_ne.mpr c_73); simp only [cntI, q1, Bool.false_eq_true, if_false, Nat.add_zero] at ih; exact ih) | (have q1 : (if w = 1 then likeB (ow k) (lk k) s else ow k == s) = true := (by rw [if_neg c_49]; exact beq_iff_eq.mpr c_73); simp only [cntI, q1, if_true] at ih; exact ih)
        · refine r_iincV dX5_sorts_76 rfl (Nat.le_of_ble_eq_true rfl) (incN _) ?_
          refine r_iincV dX5_sorts_79 rfl (Nat.le_of_ble_eq_true rfl) (incN _) ?_
          refine r_goto 38 dX5_sorts_82 (by decide) ?_
          first | (have q1 : (if w = 1 then likeB (ow k) (lk k) s else ow k == s) = false := (by rw [if_pos c_49]; exact b2i_0.mp c_59); simp only [cntI, q1, Bool.false_eq_true, if_false, Nat.add_zero] at ih; exact ih) | (have q1 : (if w = 1 then likeB (ow k) (lk k) s else ow k == s) = true := (by rw [if_pos c_49]; exact b2i_n.mp c_59); simp only [cntI, q1, if_true] at ih; exact ih) | (have q1 : (if w = 1 then likeB (ow k) (lk k) s else ow k == s) = false := (by rw [if_neg c_49]; exact beq_eq_false_iff_ne.mpr c_73); simp only [cntI, q1, Bool.false_eq_true, if_false, Nat.add_zero] at ih; exact ih) | (have q1 : (if w = 1 then likeB (ow k) (lk k) s else ow k == s) = true := (by rw [if_neg c_49]; exact beq_iff_eq.mpr c_73); simp only [cntI, q1, if_true] at ih; exact ih)
      · refine r_aload_n dX5_sorts_52 rfl ?_
        refine r_iload dX5_sorts_53 rfl ?_
        refine r_iload_n dX5_sorts_55 rfl ?_
        refine r_callV (as := [_, _]) okX5_doesLike bX5 rfl rfl q1702 dX5_sorts_56 (Nat.le_of_ble_eq_true rfl) rfl (Nat.le_of_ble_eq_true rfl) (Nat.le_of_ble_eq_true rfl) (Nat.le_of_ble_eq_true rfl) (pX5_doesLike (by omega) ?_)
        refine r_if_eq 79 dX5_sorts_59 (by decide) (fun c_59 => ?_) (fun c_59 => ?_)
        · refine r_iincV dX5_sorts_79 rfl (Nat.le_of_ble_eq_true rfl) (incN _) ?_
          refine r_goto 38 dX5_sorts_82 (by decide) ?_
          first | (have q1 : (if w = 1 then likeB (ow k) (lk k) s else ow k == s) = false := (by rw [if_pos c_49]; exact b2i_0.mp c_59); simp only [cntI, q1, Bool.false_eq_true, if_false, Nat.add_zero] at ih; exact ih) | (have q1 : (if w = 1 then likeB (ow k) (lk k) s else ow k == s) = true := (by rw [if_pos c_49]; exact b2i_n.mp c_59); simp only [cntI, q1, if_true] at ih; exact ih) | (have q1 : (if w = 1 then likeB (ow k) (lk k) s else ow k == s) = false := (by rw [if_neg c_49]; exact beq_eq_false_iff_ne.mpr c_73); simp only [cntI, q1, Bool.false_eq_true, if_false, Nat.add_zero] at ih; exact ih) | (have q1 : (if w = 1 then likeB (ow k) (lk k) s else ow k == s) = true := (by rw [if_neg c_49]; exact beq_iff_eq.mpr c_73); simp only [cntI, q1, if_true] at ih; exact ih)
        · refine r_goto 76 dX5_sorts_62 (by decide) ?_
          refine r_iincV dX5_sorts_76 rfl (Nat.le_of_ble_eq_true rfl) (incN _) ?_
          refine r_iincV dX5_sorts_79 rfl (Nat.le_of_ble_eq_true rfl) (incN _) ?_
          refine r_goto 38 dX5_sorts_82 (by decide) ?_
          first | (have q1 : (if w = 1 then likeB (ow k) (lk k) s else ow k == s) = false := (by rw [if_pos c_49]; exact b2i_0.mp c_59); simp only [cntI, q1, Bool.false_eq_true, if_false, Nat.add_zero] at ih; exact ih) | (have q1 : (if w = 1 then likeB (ow k) (lk k) s else ow k == s) = true := (by rw [if_pos c_49]; exact b2i_n.mp c_59); simp only [cntI, q1, if_true] at ih; exact ih) | (have q1 : (if w = 1 then likeB (ow k) (lk k) s else ow k == s) = false := (by rw [if_neg c_49]; exact beq_eq_false_iff_ne.mpr c_73); simp only [cntI, q1, Bool.false_eq_true, if_false, Nat.add_zero] at ih; exact ih) | (have q1 : (if w = 1 then likeB (ow k) (lk k) s else ow k == s) = true := (by rw [if_neg c_49]; exact beq_iff_eq.mpr c_73); simp only [cntI, q1, if_true] at ih; exact ih)
  refine r_iload_n dX5_sorts_0 rfl ?_
  refine r_callS (as := [_]) okX5_isSort q1737 dX5_sorts_1 (Nat.le_of_ble_eq_true rfl) rfl (Nat.le_of_ble_eq_true rfl) (Nat.le_of_ble_eq_true rfl) (Nat.le_of_ble_eq_true rfl) (pX5_isSort ?_)
  refine r_if_eq 16 dX5_sorts_4 (by decide) (fun c_4 => ?_) (fun c_4 => ?_)
  · refine r_aload_n dX5_sorts_16 rfl ?_
    refine r_bipush (-2) dX5_sorts_17 (by decide) ?_
    refine r_callV (as := [_]) okX5_no bX5 rfl rfl q1633 dX5_sorts_19 (Nat.le_of_ble_eq_true rfl) rfl (Nat.le_of_ble_eq_true rfl) (Nat.le_of_ble_eq_true rfl) (Nat.le_of_ble_eq_true rfl) (pX5_no 2 (by decide) (by decide) ?_)
    exact r_iret dX5_sorts_22 rfl (Nat.le_of_ble_eq_true rfl) (Nat.le_of_ble_eq_true rfl) (hbad (by simp_all [b2i_0]))
  · refine r_iload_n dX5_sorts_7 rfl ?_
    refine r_iconst 0 dX5_sorts_8 (by decide) ?_
    refine r_iconst 2 dX5_sorts_9 (by decide) ?_
    refine r_callS (as := [_, _, _]) okX5_within q1630 dX5_sorts_10 (Nat.le_of_ble_eq_true rfl) rfl (Nat.le_of_ble_eq_true rfl) (Nat.le_of_ble_eq_true rfl) (Nat.le_of_ble_eq_true rfl) (pX5_within ?_)
    refine r_if_ne 23 dX5_sorts_13 (by decide) (fun c_13 => ?_) (fun c_13 => ?_)
    · refine r_iload_n dX5_sorts_23 rfl ?_
      refine r_if_ne 33 dX5_sorts_24 (by decide) (fun c_24 => ?_) (fun c_24 => ?_)
      · exact hgo (b2i_n.mp c_4) (b2i_n.mp c_13) c_24
      · refine r_aload_n dX5_sorts_27 rfl ?_
        refine r_iload_n dX5_sorts_28 rfl ?_
        refine r_callV (as := [_]) okX5_inWindow bX5 rfl rfl q1951 dX5_sorts_29 (Nat.le_of_ble_eq_true rfl) rfl (Nat.le_of_ble_eq_true rfl) (Nat.le_of_ble_eq_true rfl) (Nat.le_of_ble_eq_true rfl) (pX5_inWindow ?_)
        exact r_iret dX5_sorts_32 rfl (Nat.le_of_ble_eq_true rfl) (Nat.le_of_ble_eq_true rfl) (h0 (b2i_n.mp c_4) c_24)
    · refine r_aload_n dX5_sorts_16 rfl ?_
      refine r_bipush (-2) dX5_sorts_17 (by decide) ?_
      refine r_callV (as := [_]) okX5_no bX5 rfl rfl q1633 dX5_sorts_19 (Nat.le_of_ble_eq_true rfl) rfl (Nat.le_of_ble_eq_true rfl) (Nat.le_of_ble_eq_true rfl) (Nat.le_of_ble_eq_true rfl) (pX5_no 2 (by decide) (by decide) ?_)
      exact r_iret dX5_sorts_22 rfl (Nat.le_of_ble_eq_true rfl) (Nat.le_of_ble_eq_true rfl) (hbad (by simp_all [b2i_0]))
theorem pX5_rare {w : Int32} (hbad : inB w 0 1 = false → Q (some (.int (-2))) ((mC th kd ow ag lk co sh hs tp hd rl ro (upd rf 2 (rf 2 + 1)) ol ah tr od tk fo wi ou ge mo my ev se td fr to tn va im lo), r)) (hno : inB w 0 1 = true → raF th w 8 = -1 → Q (some (.int (-5))) ((mC th kd ow ag lk co sh hs tp hd rl ro (upd rf 5 (rf 5 + 1)) ol ah tr od tk fo wi ou ge mo my ev se td fr to tn va im lo), r)) (hok : inB w 0 1 = true → raF th w 8 ≠ -1 → Q (some (.int (raF th w 8))) ((mC th kd ow ag lk co sh hs tp hd rl ro rf ol ah tr od tk fo wi ou ge mo my ev se td fr to tn va im lo), r)) : AMet mX5_rare 3 0 0 [.ref 0, .int w] ((mC th kd ow ag lk co sh hs tp hd rl ro rf ol ah tr od tk fo wi ou ge mo my ev se td fr to tn va im lo), r) Q := by
  refine AMet.ofRch rfl rfl (Nat.le_of_ble_eq_true rfl) ?_
  have hgo : inB w 0 1 = true → Rch (mX5_rare, 3, 0, 0, oQ Q) 0 0 16 [some (.ref 0), some (.int w), none, none, none] [] ((mC th kd ow ag lk co sh hs tp hd rl ro rf ol ah tr od tk fo wi ou ge mo my ev se td fr to tn va im lo), r) := by
    intro g
    refine r_iconst (-1) dX5_rare_16 (by decide) ?_
    refine r_istore_n dX5_rare_17 (Nat.le_of_ble_eq_true rfl) ?_
    refine r_iconst 0 dX5_rare_18 (by decide) ?_
    refine r_istore_n dX5_rare_19 (Nat.le_of_ble_eq_true rfl) ?_
    refine loopUp (N := 8) (P := fun k => Rch (mX5_rare, 3, 0, 0, oQ Q) 0 0 20 [some (.ref 0), some (.int w), some (.int (raF th w k)), some (.int (nI k)), none] [] ((mC th kd ow ag lk co sh hs tp hd rl ro rf ol ah tr od tk fo wi ou ge mo my ev se td fr to tn va im lo), r)) ?_ ?_
    · refine r_iload_n dX5_rare_20 rfl ?_
      refine r_bipush 8 dX5_rare_21 (by decide) ?_
      refine r_icmp_ge 78 dX5_rare_23 (by decide) (fun _ => ?_) (fun c_ => absurd (geT 8) c_)
      refine r_iload_n dX5_rare_78 rfl ?_
      refine r_iconst (-1) dX5_rare_79 (by decide) ?_
      refine r_icmp_ne 92 dX5_rare_80 (by decide) (fun c_80 => ?_) (fun c_80 => ?_)
      · refine r_iload_n dX5_rare_92 rfl ?_
        exact r_iret dX5_rare_93 rfl (Nat.le_of_ble_eq_true rfl) (Nat.le_of_ble_eq_true rfl) (by first | exact hok g c_80 | exact hno g c_80)
      · refine r_aload_n dX5_rare_83 rfl ?_
        refine r_bipush (-5) dX5_rare_84 (by decide) ?_
        refine r_callV (as := [_]) okX5_no bX5 rfl rfl q1633 dX5_rare_86 (Nat.le_of_ble_eq_true rfl) rfl (Nat.le_of_ble_eq_true rfl) (Nat.le_of_ble_eq_true rfl) (Nat.le_of_ble_eq_true rfl) (pX5_no 5 (by decide) (by decide) ?_)
        refine r_goto 93 dX5_rare_89 (by decide) ?_
        exact r_iret dX5_rare_93 rfl (Nat.le_of_ble_eq_true rfl) (Nat.le_of_ble_eq_true rfl) (by first | exact hok g c_80 | exact hno g c_80)
    · intro k hk2 ih
      refine r_iload_n dX5_rare_20 rfl ?_
      refine r_bipush 8 dX5_rare_21 (by decide) ?_
      refine r_icmp_ge 78 dX5_rare_23 (by decide) (fun c_ => absurd c_ (geF hk2 (by decide))) (fun _ => ?_)
      refine r_aload_n dX5_rare_26 rfl ?_
      refine r_iload_n dX5_rare_27 rfl ?_
      refine r_callV (as := [_]) okX5_inWindow bX5 rfl rfl q1951 dX5_rare_28 (Nat.le_of_ble_eq_true rfl) rfl (Nat.le_of_ble_eq_true rfl) (Nat.le_of_ble_eq_true rfl) (Nat.le_of_ble_eq_true rfl) (pX5_inWindow ?_)
      refine r_istore dX5_rare_31 (Nat.le_of_ble_eq_true rfl) ?_
      refine r_iload dX5_rare_33 rfl ?_
      refine r_if_le 72 dX5_rare_35 (by decide) (fun c_35 => ?_) (fun c_35 => ?_)
      · refine r_forget 4 ?_
        have ih3 : Rch (mX5_rare, 3, 0, 0, oQ Q) 0 0 20 [some (.ref 0), some (.int w), some (.int (raF th w k)), some (.int (nI (k + 1))), none] [] ((mC th kd ow ag lk co sh hs tp hd rl ro rf ol ah tr od tk fo wi ou ge mo my ev se td fr to tn va im lo), r) := by
          rw [raF, if_neg] at ih
          · exact ih
          · intro z
            first | exact absurd z.1 (Int32.not_lt.mpr c_35) | exact z.2.elim (fun y => c_40 y) (fun y => by rw [if_pos c_44] at y; exact absurd y (Int32.not_lt.mpr c_54)) | exact z.2.elim (fun y => c_40 y) (fun y => by rw [if_neg c_44] at y; exact absurd y (Int32.not_lt.mpr c_67))
        refine r_iincV dX5_rare_72 rfl (Nat.le_of_ble_eq_true rfl) (incN _) ?_
        refine r_goto 20 dX5_rare_75 (by decide) ?_
        exact ih3
      · refine r_iload_n dX5_rare_38 rfl ?_
        refine r_iconst (-1) dX5_rare_39 (by decide) ?_
        refine r_icmp_eq 70 dX5_rare_40 (by decide) (fun c_40 => ?_) (fun c_40 => ?_)
        · have ih3 : Rch (mX5_rare, 3, 0, 0, oQ Q) 0 0 20 [some (.ref 0), some (.int w), some (.int (nI k)), some (.int (nI (k + 1))), none] [] ((mC th kd ow ag lk co sh hs tp hd rl ro rf ol ah tr od tk fo wi ou ge mo my ev se td fr to tn va im lo), r) := by
            rw [raF, if_pos] at ih
            · exact ih
            · refine ⟨Int32.not_le.mp c_35, ?_⟩
              first | exact Or.inl c_40 | exact Or.inr (by rw [if_pos c_44]; exact Int32.not_le.mp c_54) | exact Or.inr (by rw [if_neg c_44]; exact Int32.not_le.mp c_67)
          refine r_forget 4 ?_
          refine r_iload_n dX5_rare_70 rfl ?_
          refine r_istore_n dX5_rare_71 (Nat.le_of_ble_eq_true rfl) ?_
          refine r_iincV dX5_rare_72 rfl (Nat.le_of_ble_eq_true rfl) (incN _) ?_
          refine r_goto 20 dX5_rare_75 (by decide) ?_
          exact ih3
        · refine r_iload_n dX5_rare_43 rfl ?_
          refine r_if_ne 60 dX5_rare_44 (by decide) (fun c_44 => ?_) (fun c_44 => ?_)
          · refine r_iload dX5_rare_60 rfl ?_
            refine r_aload_n dX5_rare_62 rfl ?_
            refine r_iload_n dX5_rare_63 rfl ?_
            refine r_callV (as := [_]) okX5_inWindow bX5 rfl rfl q1951 dX5_rare_64 (Nat.le_of_ble_eq_true rfl) rfl (Nat.le_of_ble_eq_true rfl) (Nat.le_of_ble_eq_true rfl) (Nat.le_of_ble_eq_true rfl) (pX5_inWindow ?_)
            refine r_icmp_le 72 dX5_rare_67 (by decide) (fun c_67 => ?_) (fun c_67 => ?_)
            · refine r_forget 4 ?_
              have ih3 : Rch (mX5_rare, 3, 0, 0, oQ Q) 0 0 20 [some (.ref 0), some (.int w), some (.int (raF th w k)), some (.int (nI (k + 1))), none] [] ((mC th kd ow ag lk co sh hs tp hd rl ro rf ol ah tr od tk fo wi ou ge mo my ev se td fr to tn va im lo), r) := by
                rw [raF, if_neg] at ih
                · exact ih
                · intro z
                  first | exact absurd z.1 (Int32.not_lt.mpr c_35) | exact z.2.elim (fun y => c_40 y) (fun y => by rw [if_pos c_44] at y; exact absurd y (Int32.not_lt.mpr c_54)) | exact z.2.elim (fun y => c_40 y) (fun y => by rw [if_neg c_44] at y; exact absurd y (Int32.not_lt.mpr c_67))
              refine r_iincV dX5_rare_72 rfl (Nat.le_of_ble_eq_true rfl) (incN _) ?_
              refine r_goto 20 dX5_rare_75 (by decide) ?_
              exact ih3
            · have ih3 : Rch (mX5_rare, 3, 0, 0, oQ Q) 0 0 20 [some (.ref 0), some (.int w), some (.int (nI k)), some (.int (nI (k + 1))), none] [] ((mC th kd ow ag lk co sh hs tp hd rl ro rf ol ah tr od tk fo wi ou ge mo my ev se td fr to tn va im lo), r) := by
                rw [raF, if_pos] at ih
                · exact ih
                · refine ⟨Int32.not_le.mp c_35, ?_⟩
                  first | exact Or.inl c_40 | exact Or.inr (by rw [if_pos c_44]; exact Int32.not_le.mp c_54) | exact Or.inr (by rw [if_neg c_44]; exact Int32.not_le.mp c_67)
              refine r_forget 4 ?_
              refine r_iload_n dX5_rare_70 rfl ?_
              refine r_istore_n dX5_rare_71 (Nat.le_of_ble_eq_true rfl) ?_
              refine r_iincV dX5_rare_72 rfl (Nat.le_of_ble_eq_true rfl) (incN _) ?_
              refine r_goto 20 dX5_rare_75 (by decide) ?_
              exact ih3
          · refine r_iload dX5_rare_47 rfl ?_
            refine r_aload_n dX5_rare_49 rfl ?_
            refine r_iload_n dX5_rare_50 rfl ?_
            refine r_callV (as := [_]) okX5_inWindow bX5 rfl rfl q1951 dX5_rare_51 (Nat.le_of_ble_eq_true rfl) rfl (Nat.le_of_ble_eq_true rfl) (Nat.le_of_ble_eq_true rfl) (Nat.le_of_ble_eq_true rfl) (pX5_inWindow ?_)
            refine r_icmp_ge 72 dX5_rare_54 (by decide) (fun c_54 => ?_) (fun c_54 => ?_)
            · refine r_forget 4 ?_
              have ih3 : Rch (mX5_rare, 3, 0, 0, oQ Q) 0 0 20 [some (.ref 0), some (.int w), some (.int (raF th w k)), some (.int (nI (k + 1))), none] [] ((mC th kd ow ag lk co sh hs tp hd rl ro rf ol ah tr od tk fo wi ou ge mo my ev se td fr to tn va im lo), r) := by
                rw [raF, if_neg] at ih
                · exact ih
                · intro z
                  first | exact absurd z.1 (Int32.not_lt.mpr c_35) | exact z.2.elim (fun y => c_40 y) (fun y => by rw [if_pos c_44] at y; exact absurd y (Int32.not_lt.mpr c_54)) | exact z.2.elim (fun y => c_40 y) (fun y => by rw [if_neg c_44] at y; exact absurd y (Int32.not_lt.mpr c_67))
              refine r_iincV dX5_rare_72 rfl (Nat.le_of_ble_eq_true rfl) (incN _) ?_
              refine r_goto 20 dX5_rare_75 (by decide) ?_
              exact ih3
            · refine r_goto 70 dX5_rare_57 (by decide) ?_
              have ih3 : Rch (mX5_rare, 3, 0, 0, oQ Q) 0 0 20 [some (.ref 0), some (.int w), some (.int (nI k)), some (.int (nI (k + 1))), none] [] ((mC th kd ow ag lk co sh hs tp hd rl ro rf ol ah tr od tk fo wi ou ge mo my ev se td fr to tn va im lo), r) := by
                rw [raF, if_pos] at ih
                · exact ih
                · refine ⟨Int32.not_le.mp c_35, ?_⟩
                  first | exact Or.inl c_40 | exact Or.inr (by rw [if_pos c_44]; exact Int32.not_le.mp c_54) | exact Or.inr (by rw [if_neg c_44]; exact Int32.not_le.mp c_67)
              refine r_forget 4 ?_
              refine r_iload_n dX5_rare_70 rfl ?_
              refine r_istore_n dX5_rare_71 (Nat.le_of_ble_eq_true rfl) ?_
              refine r_iincV dX5_rare_72 rfl (Nat.le_of_ble_eq_true rfl) (incN _) ?_
              refine r_goto 20 dX5_rare_75 (by decide) ?_
              exact ih3
  refine r_iload_n dX5_rare_0 rfl ?_
  refine r_iconst 0 dX5_rare_1 (by decide) ?_
  refine r_iconst 1 dX5_rare_2 (by decide) ?_
  refine r_callS (as := [_, _, _]) okX5_within q1630 dX5_rare_3 (Nat.le_of_ble_eq_true rfl) rfl (Nat.le_of_ble_eq_true rfl) (Nat.le_of_ble_eq_true rfl) (Nat.le_of_ble_eq_true rfl) (pX5_within ?_)
  refine r_if_ne 16 dX5_rare_6 (by decide) (fun c_6 => ?_) (fun c_6 => ?_)
  · exact hgo (b2i_n.mp c_6)
  · refine r_aload_n dX5_rare_9 rfl ?_
    refine r_bipush (-2) dX5_rare_10 (by decide) ?_
    refine r_callV (as := [_]) okX5_no bX5 rfl rfl q1633 dX5_rare_12 (Nat.le_of_ble_eq_true rfl) rfl (Nat.le_of_ble_eq_true rfl) (Nat.le_of_ble_eq_true rfl) (Nat.le_of_ble_eq_true rfl) (pX5_no 2 (by decide) (by decide) ?_)
    exact r_iret dX5_rare_15 rfl (Nat.le_of_ble_eq_true rfl) (Nat.le_of_ble_eq_true rfl) (hbad (b2i_0.mp c_6))
theorem pX5_rank {w : Int32} {j : Nat} (hj : j < 8) (hw : inB w 0 2 = true) (hQ : Q (some (.int (rkF ag hs w j))) ((mC th kd ow ag lk co sh hs tp hd rl ro rf ol ah tr od tk fo wi ou ge mo my ev se td fr to tn va im lo), r)) : AMet mX5_rank 1 0 0 [.ref 0, .int (nI j), .int w] ((mC th kd ow ag lk co sh hs tp hd rl ro rf ol ah tr od tk fo wi ou ge mo my ev se td fr to tn va im lo), r) Q := by
  refine AMet.ofRch rfl rfl (Nat.le_of_ble_eq_true rfl) ?_
  obtain ⟨z, hz, rfl⟩ := inB_ex 2 (by decide) hw
  rcases (show z = 0 ∨ z = 1 ∨ z = 2 by omega) with rfl | rfl | rfl
  · refine r_iload_n dX5_rank_0 rfl ?_
    refine r_iconst 2 dX5_rank_1 (by decide) ?_
    refine r_icmp_ge 26 dX5_rank_2 (by decide) (fun c_ => absurd c_ (by decide)) (fun _ => ?_)
    refine r_iload_n dX5_rank_5 rfl ?_
    refine r_if_ne 19 dX5_rank_6 (by decide) (fun c_ => absurd (rfl) c_) (fun _ => ?_)
    refine r_aload_n dX5_rank_9 rfl ?_
    refine r_get bX5 4 (by decide) q1527 dX5_rank_10 rfl rfl ?_
    refine r_iload_n dX5_rank_13 rfl ?_
    refine r_ialdN dX5_rank_14 rfl (by omega) (Nat.le_of_ble_eq_true rfl) ?_
    refine r_ineg dX5_rank_15 ?_
    refine r_goto 25 dX5_rank_16 (by decide) ?_
    exact r_iret dX5_rank_25 rfl (Nat.le_of_ble_eq_true rfl) (Nat.le_of_ble_eq_true rfl) (hQ)
  · refine r_iload_n dX5_rank_0 rfl ?_
    refine r_iconst 2 dX5_rank_1 (by decide) ?_
    refine r_icmp_ge 26 dX5_rank_2 (by decide) (fun c_ => absurd c_ (by decide)) (fun _ => ?_)
    refine r_iload_n dX5_rank_5 rfl ?_
    refine r_if_ne 19 dX5_rank_6 (by decide) (fun _ => ?_) (fun c_ => absurd c_ (by decide))
    refine r_aload_n dX5_rank_19 rfl ?_
    refine r_get bX5 4 (by decide) q1527 dX5_rank_20 rfl rfl ?_
    refine r_iload_n dX5_rank_23 rfl ?_
    refine r_ialdN dX5_rank_24 rfl (by omega) (Nat.le_of_ble_eq_true rfl) ?_
    exact r_iret dX5_rank_25 rfl (Nat.le_of_ble_eq_true rfl) (Nat.le_of_ble_eq_true rfl) (hQ)
  · refine r_iload_n dX5_rank_0 rfl ?_
    refine r_iconst 2 dX5_rank_1 (by decide) ?_
    refine r_icmp_ge 26 dX5_rank_2 (by decide) (fun _ => ?_) (fun c_ => absurd (by decide) c_)
    refine r_iconst 0 dX5_rank_26 (by decide) ?_
    refine r_istore_n dX5_rank_27 (Nat.le_of_ble_eq_true rfl) ?_
    refine r_iconst 0 dX5_rank_28 (by decide) ?_
    refine r_istore dX5_rank_29 (Nat.le_of_ble_eq_true rfl) ?_
    refine loopUp (N := 8) (P := fun k => Rch (mX5_rank, 1, 0, 0, oQ Q) 0 0 31 [some (.ref 0), some (.int (nI j)), some (.int (nI 2)), some (.int (rkF.suI (fun s => hs (8 * j + s)) k)), some (.int (nI k))] [] ((mC th kd ow ag lk co sh hs tp hd rl ro rf ol ah tr od tk fo wi ou ge mo my ev se td fr to tn va im lo), r)) ?_ ?_
    · refine r_iload dX5_rank_31 rfl ?_
      refine r_bipush 8 dX5_rank_33 (by decide) ?_
      refine r_icmp_ge 59 dX5_rank_35 (by decide) (fun _ => ?_) (fun c_ => absurd (geT 8) c_)
      refine r_iload_n dX5_rank_59 rfl ?_
      exact r_iret dX5_rank_60 rfl (Nat.le_of_ble_eq_true rfl) (Nat.le_of_ble_eq_true rfl) (hQ)
    · intro k hk2 ih
      refine r_iload dX5_rank_31 rfl ?_
      refine r_bipush 8 dX5_rank_33 (by decide) ?_
      refine r_icmp_ge 59 dX5_rank_35 (by decide) (fun c_ => absurd c_ (geF hk2 (by decide))) (fun _ => ?_)
      refine r_iload_n dX5_rank_38 rfl ?_
      refine r_aload_n dX5_rank_39 rfl ?_
      refine r_get bX5 8 (by decide) q1531 dX5_rank_40 rfl rfl ?_
      refine r_bipush 8 dX5_rank_43 (by decide) ?_
      refine r_iload_n dX5_rank_45 rfl ?_
      refine r_imul dX5_rank_46 ?_
      rw [show (8 : Int32) * nI j = nI (8 * j) from pk_mul 8 j]
      refine r_iload dX5_rank_47 rfl ?_
      refine r_iadd dX5_rank_49 ?_
      rw [nI_add]
      refine r_ialdN dX5_rank_50 rfl (by omega) (Nat.le_of_ble_eq_true rfl) ?_
      refine r_iadd dX5_rank_51 ?_
      refine r_istore_n dX5_rank_52 (Nat.le_of_ble_eq_true rfl) ?_
      refine r_iincV dX5_rank_53 rfl (Nat.le_of_ble_eq_true rfl) (incN _) ?_
      refine r_goto 31 dX5_rank_56 (by decide) ?_
      exact ih
theorem pX5_first {w : Int32} (hn : n ≤ 8) (hbad : inB w 0 2 = false → Q (some (.int (-2))) ((mC th kd ow ag lk co sh hs tp hd rl ro (upd rf 2 (rf 2 + 1)) ol ah tr od tk fo wi ou ge mo (nI n) ev se td fr to tn va im lo), r)) (hno : inB w 0 2 = true → fiF ag hs w n = -1 → Q (some (.int (-5))) ((mC th kd ow ag lk co sh hs tp hd rl ro (upd rf 5 (rf 5 + 1)) ol ah tr od tk fo wi ou ge mo (nI n) ev se td fr to tn va im lo), r)) (hok : inB w 0 2 = true → fiF ag hs w n ≠ -1 → Q (some (.int (fiF ag hs w n))) ((mC th kd ow ag lk co sh hs tp hd rl ro rf ol ah tr od tk fo wi ou ge mo (nI n) ev se td fr to tn va im lo), r)) : AMet mX5_first 3 0 0 [.ref 0, .int w] ((mC th kd ow ag lk co sh hs tp hd rl ro rf ol ah tr od tk fo wi ou ge mo (nI n) ev se td fr to tn va im lo), r) Q := by
  refine AMet.ofRch rfl rfl (Nat.le_of_ble_eq_true rfl) ?_
  have hgo : inB w 0 2 = true → Rch (mX5_first, 3, 0, 0, oQ Q) 0 0 16 [some (.ref 0), some (.int w), none, none] [] ((mC th kd ow ag lk co sh hs tp hd rl ro rf ol ah tr od tk fo wi ou ge mo (nI n) ev se td fr to tn va im lo), r) := by
    intro g
    refine r_iconst (-1) dX5_first_16 (by decide) ?_
    refine r_istore_n dX5_first_17 (Nat.le_of_ble_eq_true rfl) ?_
    refine r_iconst 0 dX5_first_18 (by decide) ?_
    refine r_istore_n dX5_first_19 (Nat.le_of_ble_eq_true rfl) ?_
    refine loopUp (N := n) (P := fun k => Rch (mX5_first, 3, 0, 0, oQ Q) 0 0 20 [some (.ref 0), some (.int w), some (.int (fiF ag hs w k)), some (.int (nI k))] [] ((mC th kd ow ag lk co sh hs tp hd rl ro rf ol ah tr od tk fo wi ou ge mo (nI n) ev se td fr to tn va im lo), r)) ?_ ?_
    · refine r_iload_n dX5_first_20 rfl ?_
      refine r_aload_n dX5_first_21 rfl ?_
      refine r_get bX5 1 (by decide) q1524 dX5_first_22 rfl rfl ?_
      refine r_icmp_ge 56 dX5_first_25 (by decide) (fun _ => ?_) (fun c_ => absurd (Int32.le_refl _) c_)
      refine r_iload_n dX5_first_56 rfl ?_
      refine r_iconst (-1) dX5_first_57 (by decide) ?_
      refine r_icmp_ne 70 dX5_first_58 (by decide) (fun c_58 => ?_) (fun c_58 => ?_)
      · refine r_iload_n dX5_first_70 rfl ?_
        exact r_iret dX5_first_71 rfl (Nat.le_of_ble_eq_true rfl) (Nat.le_of_ble_eq_true rfl) (by first | exact hok g c_58 | exact hno g c_58)
      · refine r_aload_n dX5_first_61 rfl ?_
        refine r_bipush (-5) dX5_first_62 (by decide) ?_
        refine r_callV (as := [_]) okX5_no bX5 rfl rfl q1633 dX5_first_64 (Nat.le_of_ble_eq_true rfl) rfl (Nat.le_of_ble_eq_true rfl) (Nat.le_of_ble_eq_true rfl) (Nat.le_of_ble_eq_true rfl) (pX5_no 5 (by decide) (by decide) ?_)
        refine r_goto 71 dX5_first_67 (by decide) ?_
        exact r_iret dX5_first_71 rfl (Nat.le_of_ble_eq_true rfl) (Nat.le_of_ble_eq_true rfl) (by first | exact hok g c_58 | exact hno g c_58)
    · intro k hk2 ih
      rcases fi_in ag hs w k with e | ⟨q, hq, e⟩
      · rw [fiF, if_pos (Or.inl e)] at ih
        rw [e]
        refine r_iload_n dX5_first_20 rfl ?_
        refine r_aload_n dX5_first_21 rfl ?_
        refine r_get bX5 1 (by decide) q1524 dX5_first_22 rfl rfl ?_
        refine r_icmp_ge 56 dX5_first_25 (by decide) (fun c_ => absurd c_ (geF hk2 (by omega))) (fun _ => ?_)
        refine r_iload_n dX5_first_28 rfl ?_
        refine r_iconst (-1) dX5_first_29 (by decide) ?_
        refine r_icmp_eq 48 dX5_first_30 (by decide) (fun _ => ?_) (fun c_ => absurd (rfl) c_)
        refine r_iload_n dX5_first_48 rfl ?_
        refine r_istore_n dX5_first_49 (Nat.le_of_ble_eq_true rfl) ?_
        refine r_iincV dX5_first_50 rfl (Nat.le_of_ble_eq_true rfl) (incN _) ?_
        refine r_goto 20 dX5_first_53 (by decide) ?_
        exact ih
      · have e2 : rkF ag hs w (fiF ag hs w k).toNatClampNeg = rkF ag hs w q := by rw [e, nI_clamp (by omega)]
        have e3 : ¬ fiF ag hs w k = -1 := by rw [e]; exact nI_m1 (by omega)
        rw [fiF, e2] at ih
        rw [e]
        rw [e] at e3
        refine r_iload_n dX5_first_20 rfl ?_
        refine r_aload_n dX5_first_21 rfl ?_
        refine r_get bX5 1 (by decide) q1524 dX5_first_22 rfl rfl ?_
        refine r_icmp_ge 56 dX5_first_25 (by decide) (fun c_ => absurd c_ (geF hk2 (by omega))) (fun _ => ?_)
        refine r_iload_n dX5_first_28 rfl ?_
        refine r_iconst (-1) dX5_first_29 (by decide) ?_
        refine r_icmp_eq 48 dX5_first_30 (by decide) (fun c_ => absurd c_ (e3)) (fun _ => ?_)
        refine r_aload_n dX5_first_33 rfl ?_
        refine r_iload_n dX5_first_34 rfl ?_
        refine r_iload_n dX5_first_35 rfl ?_
        refine r_callV (as := [_, _]) okX5_rank bX5 rfl rfl q1963 dX5_first_36 (Nat.le_of_ble_eq_true rfl) rfl (Nat.le_of_ble_eq_true rfl) (Nat.le_of_ble_eq_true rfl) (Nat.le_of_ble_eq_true rfl) (pX5_rank (by omega) g ?_)
        refine r_aload_n dX5_first_39 rfl ?_
        refine r_iload_n dX5_first_40 rfl ?_
        refine r_iload_n dX5_first_41 rfl ?_
        refine r_callV (as := [_, _]) okX5_rank bX5 rfl rfl q1963 dX5_first_42 (Nat.le_of_ble_eq_true rfl) rfl (Nat.le_of_ble_eq_true rfl) (Nat.le_of_ble_eq_true rfl) (Nat.le_of_ble_eq_true rfl) (pX5_rank (by omega) g ?_)
        refine r_icmp_le 50 dX5_first_45 (by decide) (fun c_45 => ?_) (fun c_45 => ?_)
        · refine r_iincV dX5_first_50 rfl (Nat.le_of_ble_eq_true rfl) (incN _) ?_
          refine r_goto 20 dX5_first_53 (by decide) ?_
          first | (rw [if_pos (Or.inr (Int32.not_le.mp c_45))] at ih; exact ih) | (rw [if_neg (fun z => z.elim (fun y => by rw [e] at y; exact e3 y) (fun y => absurd y (Int32.not_lt.mpr c_45))), e] at ih; exact ih)
        · refine r_iload_n dX5_first_48 rfl ?_
          refine r_istore_n dX5_first_49 (Nat.le_of_ble_eq_true rfl) ?_
          refine r_iincV dX5_first_50 rfl (Nat.le_of_ble_eq_true rfl) (incN _) ?_
          refine r_goto 20 dX5_first_53 (by decide) ?_
          first | (rw [if_pos (Or.inr (Int32.not_le.mp c_45))] at ih; exact ih) | (rw [if_neg (fun z => z.elim (fun y => by rw [e] at y; exact e3 y) (fun y => absurd y (Int32.not_lt.mpr c_45))), e] at ih; exact ih)
  refine r_iload_n dX5_first_0 rfl ?_
  refine r_iconst 0 dX5_first_1 (by decide) ?_
  refine r_iconst 2 dX5_first_2 (by decide) ?_
  refine r_callS (as := [_, _, _]) okX5_within q1630 dX5_first_3 (Nat.le_of_ble_eq_true rfl) rfl (Nat.le_of_ble_eq_true rfl) (Nat.le_of_ble_eq_true rfl) (Nat.le_of_ble_eq_true rfl) (pX5_within ?_)
  refine r_if_ne 16 dX5_first_6 (by decide) (fun c_6 => ?_) (fun c_6 => ?_)
  · exact hgo (b2i_n.mp c_6)
  · refine r_aload_n dX5_first_9 rfl ?_
    refine r_bipush (-2) dX5_first_10 (by decide) ?_
    refine r_callV (as := [_]) okX5_no bX5 rfl rfl q1633 dX5_first_12 (Nat.le_of_ble_eq_true rfl) rfl (Nat.le_of_ble_eq_true rfl) (Nat.le_of_ble_eq_true rfl) (Nat.le_of_ble_eq_true rfl) (pX5_no 2 (by decide) (by decide) ?_)
    exact r_iret dX5_first_15 rfl (Nat.le_of_ble_eq_true rfl) (Nat.le_of_ble_eq_true rfl) (hbad (b2i_0.mp c_6))
end MM
