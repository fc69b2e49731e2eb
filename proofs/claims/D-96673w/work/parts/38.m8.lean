set_option maxRecDepth 100000
/-! the reference: what is asked of evenings, 2 -/
section MM
variable {th kd ow ag lk co sh hs tp hd rl : Nat → Int32} {ro : Nat → Int64} {rf ol ah tr od tk fo wi ou ge mo : Nat → Int32} {my ev se td fr to tn va im lo : Int32} {r : List AC × List AC × List AC} {Q : Option Value → AHp → Prop}
variable {n : Nat} {kN : Nat → Nat}
theorem pX5_crowd {q w : Int32} (hn : n ≤ 8) (hk : ∀ j, j < n → kd j = nI (kN j) ∧ kN j < 6) (ho : ∀ j, j < n → ow j ≠ -1) (hbad : (inB q 0 (nI n) && inB w 0 1) = false → Q (some (.int (-2))) ((mC th kd ow ag lk co sh hs tp hd rl ro (upd rf 2 (rf 2 + 1)) ol ah tr od tk fo wi ou ge mo (nI n) ev se td fr to tn va im lo), r)) (hok : inB q 0 (nI n) = true → inB w 0 1 = true → ∀ (tr tk fo od : Nat → Int32) (lo : Int32), Q (some (.int (if w = 0 then (crF kN ow lk ag n th q (-1) (2 ^ n)).2 else (crF kN ow lk ag n th q (-1) (2 ^ n)).1))) ((mC th kd ow ag lk co sh hs tp hd rl ro rf ol ah tr od tk fo wi ou ge mo (nI n) ev se td fr to tn va im lo), r)) : AMet mX5_crowd 7 0 0 [.ref 0, .int q, .int w] ((mC th kd ow ag lk co sh hs tp hd rl ro rf ol ah tr od tk fo wi ou ge mo (nI n) ev se td fr to tn va im lo), r) Q := by
  refine AMet.ofRch rfl rfl (Nat.le_of_ble_eq_true rfl) ?_
  have h2 := p2_le hn
  have hgo : inB q 0 (nI n) = true → inB w 0 1 = true → Rch (mX5_crowd, 7, 0, 0, oQ Q) 0 0 28 [some (.ref 0), some (.int q), some (.int w), none, none, none, none] [] ((mC th kd ow ag lk co sh hs tp hd rl ro rf ol ah tr od tk fo wi ou ge mo (nI n) ev se td fr to tn va im lo), r) := by
    intro g1 g2
    refine r_iconst (-1) dX5_crowd_28 (by decide) ?_
    refine r_istore_n dX5_crowd_29 (Nat.le_of_ble_eq_true rfl) ?_
    refine r_iconst (-1) dX5_crowd_30 (by decide) ?_
    refine r_istore dX5_crowd_31 (Nat.le_of_ble_eq_true rfl) ?_
    refine r_iconst 0 dX5_crowd_33 (by decide) ?_
    refine r_istore dX5_crowd_34 (Nat.le_of_ble_eq_true rfl) ?_
    refine loopUp (N := 2 ^ n) (P := fun k => ∀ (tr tk fo od : Nat → Int32) (lo : Int32), Rch (mX5_crowd, 7, 0, 0, oQ Q) 0 0 36 [some (.ref 0), some (.int q), some (.int w), some (.int (crF kN ow lk ag n th q (-1) k).1), some (.int (crF kN ow lk ag n th q (-1) k).2), some (.int (nI k)), none] [] ((mC th kd ow ag lk co sh hs tp hd rl ro rf ol ah tr od tk fo wi ou ge mo (nI n) ev se td fr to tn va im lo), r)) ?_ ?_ _ _ _ _ _
    · intro tr tk fo od lo
      refine r_iload dX5_crowd_36 rfl ?_
      refine r_iconst 1 dX5_crowd_38 (by decide) ?_
      refine r_aload_n dX5_crowd_39 rfl ?_
      refine r_get bX5 1 (by decide) q1524 dX5_crowd_40 rfl rfl ?_
      refine r_ishl dX5_crowd_43 ?_
      rw [shl1 hn]
      refine r_icmp_ge 90 dX5_crowd_44 (by decide) (fun _ => ?_) (fun c_ => absurd (Int32.le_refl _) c_)
      refine r_iload_n dX5_crowd_90 rfl ?_
      refine r_if_ne 99 dX5_crowd_91 (by decide) (fun c_91 => ?_) (fun c_91 => ?_)
      · refine r_iload_n dX5_crowd_99 rfl ?_
        exact r_iret dX5_crowd_100 rfl (Nat.le_of_ble_eq_true rfl) (Nat.le_of_ble_eq_true rfl) (qi (by first | rw [if_pos c_91] | rw [if_neg c_91]) (hok g1 g2 _ _ _ _ _))
      · refine r_iload dX5_crowd_94 rfl ?_
        refine r_goto 100 dX5_crowd_96 (by decide) ?_
        exact r_iret dX5_crowd_100 rfl (Nat.le_of_ble_eq_true rfl) (Nat.le_of_ble_eq_true rfl) (qi (by first | rw [if_pos c_91] | rw [if_neg c_91]) (hok g1 g2 _ _ _ _ _))
    · intro k hk2 ih tr tk fo od lo
      refine r_iload dX5_crowd_36 rfl ?_
      refine r_iconst 1 dX5_crowd_38 (by decide) ?_
      refine r_aload_n dX5_crowd_39 rfl ?_
      refine r_get bX5 1 (by decide) q1524 dX5_crowd_40 rfl rfl ?_
      refine r_ishl dX5_crowd_43 ?_
      rw [shl1 hn]
      refine r_icmp_ge 90 dX5_crowd_44 (by decide) (fun c_ => absurd c_ (geF hk2 (by omega))) (fun _ => ?_)
      refine r_iload dX5_crowd_47 rfl ?_
      refine r_callS (as := [_]) okJ18_bitCount q1852 dX5_crowd_49 (Nat.le_of_ble_eq_true rfl) rfl (Nat.le_of_ble_eq_true rfl) (Nat.le_of_ble_eq_true rfl) (Nat.le_of_ble_eq_true rfl) (pJ18_bitCount ?_)
      refine r_iload_n dX5_crowd_52 rfl ?_
      refine r_icmp_eq 59 dX5_crowd_53 (by decide) (fun c_53 => ?_) (fun c_53 => ?_)
      · refine r_aload_n dX5_crowd_59 rfl ?_
        refine r_iload dX5_crowd_60 rfl ?_
        refine r_callV (as := [_]) okX5_gladOf bX5 rfl rfl q1840 dX5_crowd_62 (Nat.le_of_ble_eq_true rfl) rfl (Nat.le_of_ble_eq_true rfl) (Nat.le_of_ble_eq_true rfl) (Nat.le_of_ble_eq_true rfl) (pX5_gladOf hn hk ho (fun od2 hod => ?_))
        refine r_istore dX5_crowd_65 (Nat.le_of_ble_eq_true rfl) ?_
        refine r_iload dX5_crowd_67 rfl ?_
        refine r_iload dX5_crowd_69 rfl ?_
        refine r_icmp_gt 77 dX5_crowd_71 (by decide) (fun c_71 => ?_) (fun c_71 => ?_)
        · refine r_iload dX5_crowd_77 rfl ?_
          refine r_istore dX5_crowd_79 (Nat.le_of_ble_eq_true rfl) ?_
          refine r_iload dX5_crowd_81 rfl ?_
          refine r_istore_n dX5_crowd_83 (Nat.le_of_ble_eq_true rfl) ?_
          refine r_iincV dX5_crowd_84 rfl (Nat.le_of_ble_eq_true rfl) (incN _) ?_
          refine r_goto 36 dX5_crowd_87 (by decide) ?_
          first | (rw [crF, if_neg (fun z => c_53 z.1)] at ih; exact ih _ _ _ _ _) | (refine r_forget 6 ?_; rw [crF, if_pos ⟨c_53, c_71⟩] at ih; exact ih _ _ _ _ _) | (refine r_forget 6 ?_; rw [crF, if_neg (fun z => c_71 z.2)] at ih; exact ih _ _ _ _ _)
        · refine r_goto 84 dX5_crowd_74 (by decide) ?_
          refine r_iincV dX5_crowd_84 rfl (Nat.le_of_ble_eq_true rfl) (incN _) ?_
          refine r_goto 36 dX5_crowd_87 (by decide) ?_
          first | (rw [crF, if_neg (fun z => c_53 z.1)] at ih; exact ih _ _ _ _ _) | (refine r_forget 6 ?_; rw [crF, if_pos ⟨c_53, c_71⟩] at ih; exact ih _ _ _ _ _) | (refine r_forget 6 ?_; rw [crF, if_neg (fun z => c_71 z.2)] at ih; exact ih _ _ _ _ _)
      · refine r_goto 84 dX5_crowd_56 (by decide) ?_
        refine r_iincV dX5_crowd_84 rfl (Nat.le_of_ble_eq_true rfl) (incN _) ?_
        refine r_goto 36 dX5_crowd_87 (by decide) ?_
        first | (rw [crF, if_neg (fun z => c_53 z.1)] at ih; exact ih _ _ _ _ _) | (refine r_forget 6 ?_; rw [crF, if_pos ⟨c_53, c_71⟩] at ih; exact ih _ _ _ _ _) | (refine r_forget 6 ?_; rw [crF, if_neg (fun z => c_71 z.2)] at ih; exact ih _ _ _ _ _)
  refine r_iload_n dX5_crowd_0 rfl ?_
  refine r_iconst 0 dX5_crowd_1 (by decide) ?_
  refine r_aload_n dX5_crowd_2 rfl ?_
  refine r_get bX5 1 (by decide) q1524 dX5_crowd_3 rfl rfl ?_
  refine r_callS (as := [_, _, _]) okX5_within q1630 dX5_crowd_6 (Nat.le_of_ble_eq_true rfl) rfl (Nat.le_of_ble_eq_true rfl) (Nat.le_of_ble_eq_true rfl) (Nat.le_of_ble_eq_true rfl) (pX5_within ?_)
  refine r_if_eq 21 dX5_crowd_9 (by decide) (fun c_9 => ?_) (fun c_9 => ?_)
  · refine r_aload_n dX5_crowd_21 rfl ?_
    refine r_bipush (-2) dX5_crowd_22 (by decide) ?_
    refine r_callV (as := [_]) okX5_no bX5 rfl rfl q1633 dX5_crowd_24 (Nat.le_of_ble_eq_true rfl) rfl (Nat.le_of_ble_eq_true rfl) (Nat.le_of_ble_eq_true rfl) (Nat.le_of_ble_eq_true rfl) (pX5_no 2 (by decide) (by decide) ?_)
    exact r_iret dX5_crowd_27 rfl (Nat.le_of_ble_eq_true rfl) (Nat.le_of_ble_eq_true rfl) (hbad (by simp_all [b2i_0]))
  · refine r_iload_n dX5_crowd_12 rfl ?_
    refine r_iconst 0 dX5_crowd_13 (by decide) ?_
    refine r_iconst 1 dX5_crowd_14 (by decide) ?_
    refine r_callS (as := [_, _, _]) okX5_within q1630 dX5_crowd_15 (Nat.le_of_ble_eq_true rfl) rfl (Nat.le_of_ble_eq_true rfl) (Nat.le_of_ble_eq_true rfl) (Nat.le_of_ble_eq_true rfl) (pX5_within ?_)
    refine r_if_ne 28 dX5_crowd_18 (by decide) (fun c_18 => ?_) (fun c_18 => ?_)
    · exact hgo (b2i_n.mp c_9) (b2i_n.mp c_18)
    · refine r_aload_n dX5_crowd_21 rfl ?_
      refine r_bipush (-2) dX5_crowd_22 (by decide) ?_
      refine r_callV (as := [_]) okX5_no bX5 rfl rfl q1633 dX5_crowd_24 (Nat.le_of_ble_eq_true rfl) rfl (Nat.le_of_ble_eq_true rfl) (Nat.le_of_ble_eq_true rfl) (Nat.le_of_ble_eq_true rfl) (pX5_no 2 (by decide) (by decide) ?_)
      exact r_iret dX5_crowd_27 rfl (Nat.le_of_ble_eq_true rfl) (Nat.le_of_ble_eq_true rfl) (hbad (by simp_all [b2i_0]))
theorem pX5_who {t w : Int32} (hn : n ≤ 8) (hk : ∀ j, j < n → kd j = nI (kN j) ∧ kN j < 6) (ho : ∀ j, j < n → ow j ≠ -1) (hbad : (inB t 0 4095 && inB w 0 3) = false → Q (some (.int (-2))) ((mC th kd ow ag lk co sh hs tp hd rl ro (upd rf 2 (rf 2 + 1)) ol ah tr od tk fo wi ou ge mo (nI n) ev se td fr to tn va im lo), r)) (hok : inB t 0 4095 = true → inB w 0 3 = true → ∀ (tr tk fo od : Nat → Int32) (lo : Int32), Q (some (.int (if w = 0 then nI (cnG (fun k => leF kN ow lk ag n th (nI k) == t) (2 ^ n) 0) else if w = 1 then fstI (fun k => leF kN ow lk ag n th (nI k) == t) (2 ^ n) else if w = 2 then anG (fun k => leF kN ow lk ag n th (nI k) == t) (2 ^ n) 0 else orG (fun k => leF kN ow lk ag n th (nI k) == t) (2 ^ n) 0))) ((mC th kd ow ag lk co sh hs tp hd rl ro rf ol ah tr od tk fo wi ou ge mo (nI n) ev se td fr to tn va im lo), r)) : AMet mX5_who 7 0 0 [.ref 0, .int t, .int w] ((mC th kd ow ag lk co sh hs tp hd rl ro rf ol ah tr od tk fo wi ou ge mo (nI n) ev se td fr to tn va im lo), r) Q := by
  refine AMet.ofRch rfl rfl (Nat.le_of_ble_eq_true rfl) ?_
  have h2 := p2_le hn
  have h3 := p2_pos n
  have hgo : inB t 0 4095 = true → inB w 0 3 = true → Rch (mX5_who, 7, 0, 0, oQ Q) 0 0 23 [some (.ref 0), some (.int t), some (.int w), none, none, none, none, none] [] ((mC th kd ow ag lk co sh hs tp hd rl ro rf ol ah tr od tk fo wi ou ge mo (nI n) ev se td fr to tn va im lo), r) := by
    intro g1 g2
    have hl : ∀ k, k ≤ 2 ^ n → ∀ (tr tk fo od : Nat → Int32) (lo : Int32), Rch (mX5_who, 7, 0, 0, oQ Q) 0 0 44 [some (.ref 0), some (.int t), some (.int w), some (.int (nI (cnG (fun k => leF kN ow lk ag n th (nI k) == t) (2 ^ n - k) k))), some (.int (fstG (fun k => leF kN ow lk ag n th (nI k) == t) (2 ^ n - k) k)), some (.int (anG (fun k => leF kN ow lk ag n th (nI k) == t) (2 ^ n - k) k)), some (.int (orG (fun k => leF kN ow lk ag n th (nI k) == t) (2 ^ n - k) k)), some (.int (nI k - 1))] [] ((mC th kd ow ag lk co sh hs tp hd rl ro rf ol ah tr od tk fo wi ou ge mo (nI n) ev se td fr to tn va im lo), r) := by
      intro k
      induction k with
      | zero =>
        intro _ tr tk fo od lo
        refine r_iload dX5_who_44 rfl ?_
        refine r_if_lt 104 dX5_who_46 (by decide) (fun _ => ?_) (fun c_ => absurd (by decide) c_)
        refine r_iload_n dX5_who_104 rfl ?_
        refine r_if_ne 112 dX5_who_105 (by decide) (fun c_105 => ?_) (fun c_105 => ?_)
        · refine r_iload_n dX5_who_112 rfl ?_
          refine r_iconst 1 dX5_who_113 (by decide) ?_
          refine r_icmp_ne 122 dX5_who_114 (by decide) (fun c_114 => ?_) (fun c_114 => ?_)
          · refine r_iload_n dX5_who_122 rfl ?_
            refine r_iconst 2 dX5_who_123 (by decide) ?_
            refine r_icmp_ne 132 dX5_who_124 (by decide) (fun c_124 => ?_) (fun c_124 => ?_)
            · refine r_iload dX5_who_132 rfl ?_
              exact r_iret dX5_who_134 rfl (Nat.le_of_ble_eq_true rfl) (Nat.le_of_ble_eq_true rfl) (qi (by first | rw [if_pos c_105]; rfl | rw [if_neg c_105, if_pos c_114]; rfl | rw [if_neg c_105, if_neg c_114, if_pos c_124]; rfl | rw [if_neg c_105, if_neg c_114, if_neg c_124]; rfl) (hok g1 g2 _ _ _ _ _))
            · refine r_iload dX5_who_127 rfl ?_
              refine r_goto 134 dX5_who_129 (by decide) ?_
              exact r_iret dX5_who_134 rfl (Nat.le_of_ble_eq_true rfl) (Nat.le_of_ble_eq_true rfl) (qi (by first | rw [if_pos c_105]; rfl | rw [if_neg c_105, if_pos c_114]; rfl | rw [if_neg c_105, if_neg c_114, if_pos c_124]; rfl | rw [if_neg c_105, if_neg c_114, if_neg c_124]; rfl) (hok g1 g2 _ _ _ _ _))
          · refine r_iload dX5_who_117 rfl ?_
            refine r_goto 134 dX5_who_119 (by decide) ?_
            exact r_iret dX5_who_134 rfl (Nat.le_of_ble_eq_true rfl) (Nat.le_of_ble_eq_true rfl) (qi (by first | rw [if_pos c_105]; rfl | rw [if_neg c_105, if_pos c_114]; rfl | rw [if_neg c_105, if_neg c_114, if_pos c_124]; rfl | rw [if_neg c_105, if_neg c_114, if_neg c_124]; rfl) (hok g1 g2 _ _ _ _ _))
        · refine r_iload_n dX5_who_108 rfl ?_
          refine r_goto 134 dX5_who_109 (by decide) ?_
          exact r_iret dX5_who_134 rfl (Nat.le_of_ble_eq_true rfl) (Nat.le_of_ble_eq_true rfl) (qi (by first | rw [if_pos c_105]; rfl | rw [if_neg c_105, if_pos c_114]; rfl | rw [if_neg c_105, if_neg c_114, if_pos c_124]; rfl | rw [if_neg c_105, if_neg c_114, if_neg c_124]; rfl) (hok g1 g2 _ _ _ _ _))
      | succ k ih =>
        intro hk2 tr tk fo od lo
        have ih := ih (by omega)
        have e : 2 ^ n - k = (2 ^ n - (k + 1)) + 1 := by omega
        rw [e] at ih
        rw [nI_pred]
        refine r_iload dX5_who_44 rfl ?_
        refine r_if_lt 104 dX5_who_46 (by decide) (fun c_ => absurd c_ (nI_pos (by omega))) (fun _ => ?_)
        refine r_aload_n dX5_who_49 rfl ?_
        refine r_iload dX5_who_50 rfl ?_
        refine r_callV (as := [_]) okX5_runs bX5 rfl rfl q1679 dX5_who_52 (Nat.le_of_ble_eq_true rfl) rfl (Nat.le_of_ble_eq_true rfl) (Nat.le_of_ble_eq_true rfl) (Nat.le_of_ble_eq_true rfl) (pX5_runs hn hk ho (fun od2 hod => ?_))
        refine r_aload_n dX5_who_55 rfl ?_
        refine r_callV (as := []) okX5_leftThen bX5 rfl rfl q1828 dX5_who_56 (Nat.le_of_ble_eq_true rfl) rfl (Nat.le_of_ble_eq_true rfl) (Nat.le_of_ble_eq_true rfl) (Nat.le_of_ble_eq_true rfl) (pX5_leftThen ?_)
        refine r_iload_n dX5_who_59 rfl ?_
        refine r_icmp_eq 66 dX5_who_60 (by decide) (fun c_60 => ?_) (fun c_60 => ?_)
        · refine r_iincV dX5_who_66 rfl (Nat.le_of_ble_eq_true rfl) (incN _) ?_
          refine r_iload dX5_who_69 rfl ?_
          refine r_istore dX5_who_71 (Nat.le_of_ble_eq_true rfl) ?_
          refine r_iload dX5_who_73 rfl ?_
          refine r_iconst (-1) dX5_who_75 (by decide) ?_
          refine r_icmp_ne 84 dX5_who_76 (by decide) (fun c_76 => ?_) (fun c_76 => ?_)
          · refine r_iload dX5_who_84 rfl ?_
            refine r_iload dX5_who_86 rfl ?_
            refine r_iand dX5_who_88 ?_
            refine r_istore dX5_who_89 (Nat.le_of_ble_eq_true rfl) ?_
            refine r_iload dX5_who_91 rfl ?_
            refine r_iload dX5_who_93 rfl ?_
            refine r_ior dX5_who_95 ?_
            refine r_istore dX5_who_96 (Nat.le_of_ble_eq_true rfl) ?_
            refine r_iincV dX5_who_98 rfl (Nat.le_of_ble_eq_true rfl) (decS _) ?_
            refine r_goto 44 dX5_who_101 (by decide) ?_
            first | (have c2 : (leF kN ow lk ag n th (nI k) == t) = false := beq_eq_false_iff_ne.mpr c_60; simp only [cnG, fstG, anG, orG, c2, Bool.false_eq_true, if_false, Nat.add_zero] at ih; exact ih _ _ _ _ _) | (have c2 : (leF kN ow lk ag n th (nI k) == t) = true := beq_iff_eq.mpr c_60; simp only [cnG, fstG, anG, orG, c2, if_true] at ih; first | (rw [if_pos c_76] at ih; exact ih _ _ _ _ _) | (rw [if_neg c_76] at ih; exact ih _ _ _ _ _))
          · refine r_iload dX5_who_79 rfl ?_
            refine r_goto 89 dX5_who_81 (by decide) ?_
            refine r_istore dX5_who_89 (Nat.le_of_ble_eq_true rfl) ?_
            refine r_iload dX5_who_91 rfl ?_
            refine r_iload dX5_who_93 rfl ?_
            refine r_ior dX5_who_95 ?_
            refine r_istore dX5_who_96 (Nat.le_of_ble_eq_true rfl) ?_
            refine r_iincV dX5_who_98 rfl (Nat.le_of_ble_eq_true rfl) (decS _) ?_
            refine r_goto 44 dX5_who_101 (by decide) ?_
            first | (have c2 : (leF kN ow lk ag n th (nI k) == t) = false := beq_eq_false_iff_ne.mpr c_60; simp only [cnG, fstG, anG, orG, c2, Bool.false_eq_true, if_false, Nat.add_zero] at ih; exact ih _ _ _ _ _) | (have c2 : (leF kN ow lk ag n th (nI k) == t) = true := beq_iff_eq.mpr c_60; simp only [cnG, fstG, anG, orG, c2, if_true] at ih; first | (rw [if_pos c_76] at ih; exact ih _ _ _ _ _) | (rw [if_neg c_76] at ih; exact ih _ _ _ _ _))
        · refine r_goto 98 dX5_who_63 (by decide) ?_
          refine r_iincV dX5_who_98 rfl (Nat.le_of_ble_eq_true rfl) (decS _) ?_
          refine r_goto 44 dX5_who_101 (by decide) ?_
          first | (have c2 : (leF kN ow lk ag n th (nI k) == t) = false := beq_eq_false_iff_ne.mpr c_60; simp only [cnG, fstG, anG, orG, c2, Bool.false_eq_true, if_false, Nat.add_zero] at ih; exact ih _ _ _ _ _) | (have c2 : (leF kN ow lk ag n th (nI k) == t) = true := beq_iff_eq.mpr c_60; simp only [cnG, fstG, anG, orG, c2, if_true] at ih; first | (rw [if_pos c_76] at ih; exact ih _ _ _ _ _) | (rw [if_neg c_76] at ih; exact ih _ _ _ _ _))
    refine r_iconst 0 dX5_who_23 (by decide) ?_
    refine r_istore_n dX5_who_24 (Nat.le_of_ble_eq_true rfl) ?_
    refine r_iconst (-1) dX5_who_25 (by decide) ?_
    refine r_istore dX5_who_26 (Nat.le_of_ble_eq_true rfl) ?_
    refine r_iconst (-1) dX5_who_28 (by decide) ?_
    refine r_istore dX5_who_29 (Nat.le_of_ble_eq_true rfl) ?_
    refine r_iconst 0 dX5_who_31 (by decide) ?_
    refine r_istore dX5_who_32 (Nat.le_of_ble_eq_true rfl) ?_
    refine r_iconst 1 dX5_who_34 (by decide) ?_
    refine r_aload_n dX5_who_35 rfl ?_
    refine r_get bX5 1 (by decide) q1524 dX5_who_36 rfl rfl ?_
    refine r_ishl dX5_who_39 ?_
    refine r_iconst 1 dX5_who_40 (by decide) ?_
    refine r_isub dX5_who_41 ?_
    rw [shl1 hn]
    refine r_istore dX5_who_42 (Nat.le_of_ble_eq_true rfl) ?_
    have := hl (2 ^ n) (Nat.le_refl _) tr tk fo od lo
    rw [show 2 ^ n - 2 ^ n = 0 by omega] at this
    exact this
  refine r_iload_n dX5_who_0 rfl ?_
  refine r_callS (as := [_]) okX5_arePlaces q1873 dX5_who_1 (Nat.le_of_ble_eq_true rfl) rfl (Nat.le_of_ble_eq_true rfl) (Nat.le_of_ble_eq_true rfl) (Nat.le_of_ble_eq_true rfl) (pX5_arePlaces ?_)
  refine r_if_eq 16 dX5_who_4 (by decide) (fun c_4 => ?_) (fun c_4 => ?_)
  · refine r_aload_n dX5_who_16 rfl ?_
    refine r_bipush (-2) dX5_who_17 (by decide) ?_
    refine r_callV (as := [_]) okX5_no bX5 rfl rfl q1633 dX5_who_19 (Nat.le_of_ble_eq_true rfl) rfl (Nat.le_of_ble_eq_true rfl) (Nat.le_of_ble_eq_true rfl) (Nat.le_of_ble_eq_true rfl) (pX5_no 2 (by decide) (by decide) ?_)
    exact r_iret dX5_who_22 rfl (Nat.le_of_ble_eq_true rfl) (Nat.le_of_ble_eq_true rfl) (hbad (by simp_all [b2i_0]))
  · refine r_iload_n dX5_who_7 rfl ?_
    refine r_iconst 0 dX5_who_8 (by decide) ?_
    refine r_iconst 3 dX5_who_9 (by decide) ?_
    refine r_callS (as := [_, _, _]) okX5_within q1630 dX5_who_10 (Nat.le_of_ble_eq_true rfl) rfl (Nat.le_of_ble_eq_true rfl) (Nat.le_of_ble_eq_true rfl) (Nat.le_of_ble_eq_true rfl) (pX5_within ?_)
    refine r_if_ne 23 dX5_who_13 (by decide) (fun c_13 => ?_) (fun c_13 => ?_)
    · exact hgo (b2i_n.mp c_4) (b2i_n.mp c_13)
    · refine r_aload_n dX5_who_16 rfl ?_
      refine r_bipush (-2) dX5_who_17 (by decide) ?_
      refine r_callV (as := [_]) okX5_no bX5 rfl rfl q1633 dX5_who_19 (Nat.le_of_ble_eq_true rfl) rfl (Nat.le_of_ble_eq_true rfl) (Nat.le_of_ble_eq_true rfl) (Nat.le_of_ble_eq_true rfl) (pX5_no 2 (by decide) (by decide) ?_)
      exact r_iret dX5_who_22 rfl (Nat.le_of_ble_eq_true rfl) (Nat.le_of_ble_eq_true rfl) (hbad (by simp_all [b2i_0]))
theorem pX5_empty {s : Int32} (hn : n ≤ 8) (hk : ∀ j, j < n → kd j = nI (kN j) ∧ kN j < 6) (ho : ∀ j, j < n → ow j ≠ -1) (hbad : inB s 0 (allS n) = false → Q (some (.int (-2))) ((mC th kd ow ag lk co sh hs tp hd rl ro (upd rf 2 (rf 2 + 1)) ol ah tr od tk fo wi ou ge mo (nI n) ev se td fr to tn va im lo), r)) (hok : inB s 0 (allS n) = true → ∀ (tr tk fo od : Nat → Int32) (lo : Int32), Q (some (.int (bitsI (fun l => hasB s (nI l) && (evR kN ow lk ag n th s).2.1 l == 0) n))) ((mC th kd ow ag lk co sh hs tp hd rl ro rf ol ah tr od tk fo wi ou ge mo (nI n) ev se td fr to tn va im lo), r)) : AMet mX5_empty 6 0 0 [.ref 0, .int s] ((mC th kd ow ag lk co sh hs tp hd rl ro rf ol ah tr od tk fo wi ou ge mo (nI n) ev se td fr to tn va im lo), r) Q := by
  refine AMet.ofRch rfl rfl (Nat.le_of_ble_eq_true rfl) ?_
  refine r_aload_n dX5_empty_0 rfl ?_
  refine r_iload_n dX5_empty_1 rfl ?_
  refine r_callV (as := [_]) okX5_isSet bX5 rfl rfl q1824 dX5_empty_2 (Nat.le_of_ble_eq_true rfl) rfl (Nat.le_of_ble_eq_true rfl) (Nat.le_of_ble_eq_true rfl) (Nat.le_of_ble_eq_true rfl) (pX5_isSetN hn ?_)
  refine r_if_ne 15 dX5_empty_5 (by decide) (fun c_5 => ?_) (fun c_5 => ?_)
  · refine r_aload_n dX5_empty_15 rfl ?_
    refine r_iload_n dX5_empty_16 rfl ?_
    refine r_callV (as := [_]) okX5_runs bX5 rfl rfl q1679 dX5_empty_17 (Nat.le_of_ble_eq_true rfl) rfl (Nat.le_of_ble_eq_true rfl) (Nat.le_of_ble_eq_true rfl) (Nat.le_of_ble_eq_true rfl) (pX5_runs hn hk ho (fun od2 hod => ?_))
    refine r_iconst 0 dX5_empty_20 (by decide) ?_
    refine r_istore_n dX5_empty_21 (Nat.le_of_ble_eq_true rfl) ?_
    refine r_iconst 0 dX5_empty_22 (by decide) ?_
    refine r_istore_n dX5_empty_23 (Nat.le_of_ble_eq_true rfl) ?_
    refine loopUp (N := n) (P := fun k => Rch (mX5_empty, 6, 0, 0, oQ Q) 0 0 24 [some (.ref 0), some (.int s), some (.int (bitsI (fun l => hasB s (nI l) && (evR kN ow lk ag n th s).2.1 l == 0) k)), some (.int (nI k))] [] ((mC th kd ow ag lk co sh hs tp hd rl ro rf ol ah ((evR kN ow lk ag n th s).1) (od2) ((evR kN ow lk ag n th s).2.1) ((evR kN ow lk ag n th s).2.2) wi ou ge mo (nI n) ev se td fr to tn va im (nI (ordL ag s n).length)), r)) ?_ ?_
    · refine r_iload_n dX5_empty_24 rfl ?_
      refine r_aload_n dX5_empty_25 rfl ?_
      refine r_get bX5 1 (by decide) q1524 dX5_empty_26 rfl rfl ?_
      refine r_icmp_ge 61 dX5_empty_29 (by decide) (fun _ => ?_) (fun c_ => absurd (Int32.le_refl _) c_)
      refine r_iload_n dX5_empty_61 rfl ?_
      exact r_iret dX5_empty_62 rfl (Nat.le_of_ble_eq_true rfl) (Nat.le_of_ble_eq_true rfl) (hok (b2i_n.mp c_5) _ _ _ _ _)
    · intro k hk2 ih
      refine r_iload_n dX5_empty_24 rfl ?_
      refine r_aload_n dX5_empty_25 rfl ?_
      refine r_get bX5 1 (by decide) q1524 dX5_empty_26 rfl rfl ?_
      refine r_icmp_ge 61 dX5_empty_29 (by decide) (fun c_ => absurd c_ (geF hk2 (by omega))) (fun _ => ?_)
      refine r_iload_n dX5_empty_32 rfl ?_
      refine r_iload_n dX5_empty_33 rfl ?_
      refine r_callS (as := [_, _]) okX5_in q1691 dX5_empty_34 (Nat.le_of_ble_eq_true rfl) rfl (Nat.le_of_ble_eq_true rfl) (Nat.le_of_ble_eq_true rfl) (Nat.le_of_ble_eq_true rfl) (pX5_in ?_)
      refine r_if_eq 55 dX5_empty_37 (by decide) (fun c_37 => ?_) (fun c_37 => ?_)
      · refine r_iincV dX5_empty_55 rfl (Nat.le_of_ble_eq_true rfl) (incN _) ?_
        refine r_goto 24 dX5_empty_58 (by decide) ?_
        first | (have q1 := b2i_0.mp c_37; simp only [bitsI, q1, Bool.false_and, Bool.false_eq_true, if_false, or0] at ih; exact ih) | (have q1 := b2i_n.mp c_37; simp only [bitsI, q1, Bool.true_and, beq_iff_eq, c_46, if_true, if_false, or0] at ih; exact ih)
      · refine r_aload_n dX5_empty_40 rfl ?_
        refine r_get bX5 27 (by decide) q1550 dX5_empty_41 rfl rfl ?_
        refine r_iload_n dX5_empty_44 rfl ?_
        refine r_ialdN dX5_empty_45 rfl (by omega) (Nat.le_of_ble_eq_true rfl) ?_
        refine r_if_ne 55 dX5_empty_46 (by decide) (fun c_46 => ?_) (fun c_46 => ?_)
        · refine r_iincV dX5_empty_55 rfl (Nat.le_of_ble_eq_true rfl) (incN _) ?_
          refine r_goto 24 dX5_empty_58 (by decide) ?_
          first | (have q1 := b2i_0.mp c_37; simp only [bitsI, q1, Bool.false_and, Bool.false_eq_true, if_false, or0] at ih; exact ih) | (have q1 := b2i_n.mp c_37; simp only [bitsI, q1, Bool.true_and, beq_iff_eq, c_46, if_true, if_false, or0] at ih; exact ih)
        · refine r_iload_n dX5_empty_49 rfl ?_
          refine r_iconst 1 dX5_empty_50 (by decide) ?_
          refine r_iload_n dX5_empty_51 rfl ?_
          refine r_ishl dX5_empty_52 ?_
          refine r_ior dX5_empty_53 ?_
          refine r_istore_n dX5_empty_54 (Nat.le_of_ble_eq_true rfl) ?_
          refine r_iincV dX5_empty_55 rfl (Nat.le_of_ble_eq_true rfl) (incN _) ?_
          refine r_goto 24 dX5_empty_58 (by decide) ?_
          first | (have q1 := b2i_0.mp c_37; simp only [bitsI, q1, Bool.false_and, Bool.false_eq_true, if_false, or0] at ih; exact ih) | (have q1 := b2i_n.mp c_37; simp only [bitsI, q1, Bool.true_and, beq_iff_eq, c_46, if_true, if_false, or0] at ih; exact ih)
  · refine r_aload_n dX5_empty_8 rfl ?_
    refine r_bipush (-2) dX5_empty_9 (by decide) ?_
    refine r_callV (as := [_]) okX5_no bX5 rfl rfl q1633 dX5_empty_11 (Nat.le_of_ble_eq_true rfl) rfl (Nat.le_of_ble_eq_true rfl) (Nat.le_of_ble_eq_true rfl) (Nat.le_of_ble_eq_true rfl) (pX5_no 2 (by decide) (by decide) ?_)
    exact r_iret dX5_empty_14 rfl (Nat.le_of_ble_eq_true rfl) (Nat.le_of_ble_eq_true rfl) (hbad (b2i_0.mp c_5))
theorem pX5_gladOnes {s : Int32} (hn : n ≤ 8) (hk : ∀ j, j < n → kd j = nI (kN j) ∧ kN j < 6) (ho : ∀ j, j < n → ow j ≠ -1) (hbad : inB s 0 (allS n) = false → Q (some (.int (-2))) ((mC th kd ow ag lk co sh hs tp hd rl ro (upd rf 2 (rf 2 + 1)) ol ah tr od tk fo wi ou ge mo (nI n) ev se td fr to tn va im lo), r)) (hok : inB s 0 (allS n) = true → ∀ (tr tk fo od : Nat → Int32) (lo : Int32), Q (some (.int (bitsI (fun l => hasB s (nI l) && glF kN ow lk ag n th l s) n))) ((mC th kd ow ag lk co sh hs tp hd rl ro rf ol ah tr od tk fo wi ou ge mo (nI n) ev se td fr to tn va im lo), r)) : AMet mX5_gladOnes 6 0 0 [.ref 0, .int s] ((mC th kd ow ag lk co sh hs tp hd rl ro rf ol ah tr od tk fo wi ou ge mo (nI n) ev se td fr to tn va im lo), r) Q := by
  refine AMet.ofRch rfl rfl (Nat.le_of_ble_eq_true rfl) ?_
  refine r_aload_n dX5_gladOnes_0 rfl ?_
  refine r_iload_n dX5_gladOnes_1 rfl ?_
  refine r_callV (as := [_]) okX5_isSet bX5 rfl rfl q1824 dX5_gladOnes_2 (Nat.le_of_ble_eq_true rfl) rfl (Nat.le_of_ble_eq_true rfl) (Nat.le_of_ble_eq_true rfl) (Nat.le_of_ble_eq_true rfl) (pX5_isSetN hn ?_)
  refine r_if_ne 15 dX5_gladOnes_5 (by decide) (fun c_5 => ?_) (fun c_5 => ?_)
  · refine r_aload_n dX5_gladOnes_15 rfl ?_
    refine r_iload_n dX5_gladOnes_16 rfl ?_
    refine r_callV (as := [_]) okX5_runs bX5 rfl rfl q1679 dX5_gladOnes_17 (Nat.le_of_ble_eq_true rfl) rfl (Nat.le_of_ble_eq_true rfl) (Nat.le_of_ble_eq_true rfl) (Nat.le_of_ble_eq_true rfl) (pX5_runs hn hk ho (fun od2 hod => ?_))
    refine r_iconst 0 dX5_gladOnes_20 (by decide) ?_
    refine r_istore_n dX5_gladOnes_21 (Nat.le_of_ble_eq_true rfl) ?_
    refine r_iconst 0 dX5_gladOnes_22 (by decide) ?_
    refine r_istore_n dX5_gladOnes_23 (Nat.le_of_ble_eq_true rfl) ?_
    refine loopUp (N := n) (P := fun k => Rch (mX5_gladOnes, 6, 0, 0, oQ Q) 0 0 24 [some (.ref 0), some (.int s), some (.int (bitsI (fun l => hasB s (nI l) && glF kN ow lk ag n th l s) k)), some (.int (nI k))] [] ((mC th kd ow ag lk co sh hs tp hd rl ro rf ol ah ((evR kN ow lk ag n th s).1) (od2) ((evR kN ow lk ag n th s).2.1) ((evR kN ow lk ag n th s).2.2) wi ou ge mo (nI n) ev se td fr to tn va im (nI (ordL ag s n).length)), r)) ?_ ?_
    · refine r_iload_n dX5_gladOnes_24 rfl ?_
      refine r_aload_n dX5_gladOnes_25 rfl ?_
      refine r_get bX5 1 (by decide) q1524 dX5_gladOnes_26 rfl rfl ?_
      refine r_icmp_ge 60 dX5_gladOnes_29 (by decide) (fun _ => ?_) (fun c_ => absurd (Int32.le_refl _) c_)
      refine r_iload_n dX5_gladOnes_60 rfl ?_
      exact r_iret dX5_gladOnes_61 rfl (Nat.le_of_ble_eq_true rfl) (Nat.le_of_ble_eq_true rfl) (hok (b2i_n.mp c_5) _ _ _ _ _)
    · intro k hk2 ih
      refine r_iload_n dX5_gladOnes_24 rfl ?_
      refine r_aload_n dX5_gladOnes_25 rfl ?_
      refine r_get bX5 1 (by decide) q1524 dX5_gladOnes_26 rfl rfl ?_
      refine r_icmp_ge 60 dX5_gladOnes_29 (by decide) (fun c_ => absurd c_ (geF hk2 (by omega))) (fun _ => ?_)
      refine r_iload_n dX5_gladOnes_32 rfl ?_
      refine r_iload_n dX5_gladOnes_33 rfl ?_
      refine r_callS (as := [_, _]) okX5_in q1691 dX5_gladOnes_34 (Nat.le_of_ble_eq_true rfl) rfl (Nat.le_of_ble_eq_true rfl) (Nat.le_of_ble_eq_true rfl) (Nat.le_of_ble_eq_true rfl) (pX5_in ?_)
      refine r_if_eq 54 dX5_gladOnes_37 (by decide) (fun c_37 => ?_) (fun c_37 => ?_)
      · refine r_iincV dX5_gladOnes_54 rfl (Nat.le_of_ble_eq_true rfl) (incN _) ?_
        refine r_goto 24 dX5_gladOnes_57 (by decide) ?_
        first | (have q1 := b2i_0.mp c_37; simp only [bitsI, q1, Bool.false_and, Bool.false_eq_true, if_false, or0] at ih; exact ih) | (have q1 := b2i_n.mp c_37; have q2 : glF kN ow lk ag n th k s = false := b2i_0.mp c_45; simp only [bitsI, q1, q2, Bool.and_false, Bool.false_eq_true, if_false, or0] at ih; exact ih) | (have q1 := b2i_n.mp c_37; have q2 : glF kN ow lk ag n th k s = true := b2i_n.mp c_45; simp only [bitsI, q1, q2, Bool.and_self, if_true] at ih; exact ih)
      · refine r_aload_n dX5_gladOnes_40 rfl ?_
        refine r_iload_n dX5_gladOnes_41 rfl ?_
        refine r_callV (as := [_]) okX5_isGlad bX5 rfl rfl q1844 dX5_gladOnes_42 (Nat.le_of_ble_eq_true rfl) rfl (Nat.le_of_ble_eq_true rfl) (Nat.le_of_ble_eq_true rfl) (Nat.le_of_ble_eq_true rfl) (pX5_isGlad (by omega) ?_)
        refine r_if_eq 54 dX5_gladOnes_45 (by decide) (fun c_45 => ?_) (fun c_45 => ?_)
        · refine r_iincV dX5_gladOnes_54 rfl (Nat.le_of_ble_eq_true rfl) (incN _) ?_
          refine r_goto 24 dX5_gladOnes_57 (by decide) ?_
          first | (have q1 := b2i_0.mp c_37; simp only [bitsI, q1, Bool.false_and, Bool.false_eq_true, if_false, or0] at ih; exact ih) | (have q1 := b2i_n.mp c_37; have q2 : glF kN ow lk ag n th k s = false := b2i_0.mp c_45; simp only [bitsI, q1, q2, Bool.and_false, Bool.false_eq_true, if_false, or0] at ih; exact ih) | (have q1 := b2i_n.mp c_37; have q2 : glF kN ow lk ag n th k s = true := b2i_n.mp c_45; simp only [bitsI, q1, q2, Bool.and_self, if_true] at ih; exact ih)
        · refine r_iload_n dX5_gladOnes_48 rfl ?_
          refine r_iconst 1 dX5_gladOnes_49 (by decide) ?_
          refine r_iload_n dX5_gladOnes_50 rfl ?_
          refine r_ishl dX5_gladOnes_51 ?_
          refine r_ior dX5_gladOnes_52 ?_
          refine r_istore_n dX5_gladOnes_53 (Nat.le_of_ble_eq_true rfl) ?_
          refine r_iincV dX5_gladOnes_54 rfl (Nat.le_of_ble_eq_true rfl) (incN _) ?_
          refine r_goto 24 dX5_gladOnes_57 (by decide) ?_
          first | (have q1 := b2i_0.mp c_37; simp only [bitsI, q1, Bool.false_and, Bool.false_eq_true, if_false, or0] at ih; exact ih) | (have q1 := b2i_n.mp c_37; have q2 : glF kN ow lk ag n th k s = false := b2i_0.mp c_45; simp only [bitsI, q1, q2, Bool.and_false, Bool.false_eq_true, if_false, or0] at ih; exact ih) | (have q1 := b2i_n.mp c_37; have q2 : glF kN ow lk ag n th k s = true := b2i_n.mp c_45; simp only [bitsI, q1, q2, Bool.and_self, if_true] at ih; exact ih)
  · refine r_aload_n dX5_gladOnes_8 rfl ?_
    refine r_bipush (-2) dX5_gladOnes_9 (by decide) ?_
    refine r_callV (as := [_]) okX5_no bX5 rfl rfl q1633 dX5_gladOnes_11 (Nat.le_of_ble_eq_true rfl) rfl (Nat.le_of_ble_eq_true rfl) (Nat.le_of_ble_eq_true rfl) (Nat.le_of_ble_eq_true rfl) (pX5_no 2 (by decide) (by decide) ?_)
    exact r_iret dX5_gladOnes_14 rfl (Nat.le_of_ble_eq_true rfl) (Nat.le_of_ble_eq_true rfl) (hbad (b2i_0.mp c_5))
theorem pX5_without {l : Int32} (hn : n ≤ 8) (hk : ∀ j, j < n → kd j = nI (kN j) ∧ kN j < 6) (ho : ∀ j, j < n → ow j ≠ -1) (hbad : inB l 0 (nI n - 1) = false → Q (some (.int (-2))) ((mC th kd ow ag lk co sh hs tp hd rl ro (upd rf 2 (rf 2 + 1)) ol ah tr od tk fo wi ou ge mo (nI n) ev se td fr to tn va im lo), r)) (hok : ∀ j, j < n → l = nI j → ∀ (tr tk fo od : Nat → Int32) (lo : Int32), Q (some (.int (gcF kN ow lk ag n th (allS n &&& ((1 <<< (nI j &&& 31)) ^^^ (-1)))))) ((mC th kd ow ag lk co sh hs tp hd rl ro rf ol ah tr od tk fo wi ou ge mo (nI n) ev se td fr to tn va im lo), r)) : AMet mX5_without 7 0 0 [.ref 0, .int l] ((mC th kd ow ag lk co sh hs tp hd rl ro rf ol ah tr od tk fo wi ou ge mo (nI n) ev se td fr to tn va im lo), r) Q := by
  refine AMet.ofRch rfl rfl (Nat.le_of_ble_eq_true rfl) ?_
  refine r_aload_n dX5_without_0 rfl ?_
  refine r_iload_n dX5_without_1 rfl ?_
  refine r_callV (as := [_]) okX5_isLooker bX5 rfl rfl q1668 dX5_without_2 (Nat.le_of_ble_eq_true rfl) rfl (Nat.le_of_ble_eq_true rfl) (Nat.le_of_ble_eq_true rfl) (Nat.le_of_ble_eq_true rfl) (pX5_isLooker ?_)
  refine r_if_eq 29 dX5_without_5 (by decide) (fun c_5 => ?_) (fun c_5 => ?_)
  · refine r_aload_n dX5_without_29 rfl ?_
    refine r_bipush (-2) dX5_without_30 (by decide) ?_
    refine r_callV (as := [_]) okX5_no bX5 rfl rfl q1633 dX5_without_32 (Nat.le_of_ble_eq_true rfl) rfl (Nat.le_of_ble_eq_true rfl) (Nat.le_of_ble_eq_true rfl) (Nat.le_of_ble_eq_true rfl) (pX5_no 2 (by decide) (by decide) ?_)
    exact r_iret dX5_without_35 rfl (Nat.le_of_ble_eq_true rfl) (Nat.le_of_ble_eq_true rfl) (hbad (b2i_0.mp c_5))
  · obtain ⟨j, hj, rfl⟩ := inB_m (b2i_n.mp c_5) (by omega)
    refine r_aload_n dX5_without_8 rfl ?_
    refine r_iconst 1 dX5_without_9 (by decide) ?_
    refine r_aload_n dX5_without_10 rfl ?_
    refine r_get bX5 1 (by decide) q1524 dX5_without_11 rfl rfl ?_
    refine r_ishl dX5_without_14 ?_
    refine r_iconst 1 dX5_without_15 (by decide) ?_
    refine r_isub dX5_without_16 ?_
    rw [shl1m hn]
    refine r_iconst 1 dX5_without_17 (by decide) ?_
    refine r_iload_n dX5_without_18 rfl ?_
    refine r_ishl dX5_without_19 ?_
    refine r_iconst (-1) dX5_without_20 (by decide) ?_
    refine r_ixor dX5_without_21 ?_
    refine r_iand dX5_without_22 ?_
    refine r_callV (as := [_]) okX5_gladOf bX5 rfl rfl q1840 dX5_without_23 (Nat.le_of_ble_eq_true rfl) rfl (Nat.le_of_ble_eq_true rfl) (Nat.le_of_ble_eq_true rfl) (Nat.le_of_ble_eq_true rfl) (pX5_gladOf hn hk ho (fun od2 hod => ?_))
    refine r_goto 35 dX5_without_26 (by decide) ?_
    exact r_iret dX5_without_35 rfl (Nat.le_of_ble_eq_true rfl) (Nat.le_of_ble_eq_true rfl) (hok j hj rfl _ _ _ _ _)
theorem pX5_exchanges {x y : Nat} (hn : n ≤ 8) (hk : ∀ j, j < n → kd j = nI (kN j) ∧ kN j < 6) (ho : ∀ j, j < n → ow j ≠ -1) (hx : x < n) (hy : y < n) (hxy : x ≠ y) (hQ : ∀ (tr tk fo od : Nat → Int32) (lo : Int32), Q (some (.int (exF kN ow lk ag n th x y))) ((mC th kd ow ag lk co sh hs tp hd rl ro rf ol ah tr od tk fo wi ou ge mo (nI n) ev se td fr to tn va im lo), r)) : AMet mX5_exchanges 7 0 0 [.ref 0, .int (nI x), .int (nI y)] ((mC th kd ow ag lk co sh hs tp hd rl ro rf ol ah tr od tk fo wi ou ge mo (nI n) ev se td fr to tn va im lo), r) Q := by
  refine AMet.ofRch rfl rfl (Nat.le_of_ble_eq_true rfl) ?_
  have e : upd (upd (upd (upd ag x (ag y)) y (ag x)) y (upd (upd ag x (ag y)) y (ag x) x)) x (ag x) = ag := by
    funext z
    by_cases h1 : z = x
    · rw [h1, pk_us]
    · rw [pk_un h1]
      by_cases h2 : z = y
      · rw [h2, pk_us, pk_un hxy, pk_us]
      · rw [pk_un h2, pk_un h2, pk_un h1]
  have hQ2 : ∀ (tr tk fo od : Nat → Int32) (lo : Int32), Q (some (.int (exF kN ow lk ag n th x y))) ((mC th kd ow (upd (upd (upd (upd ag x (ag y)) y (ag x)) y (upd (upd ag x (ag y)) y (ag x) x)) x (ag x)) lk co sh hs tp hd rl ro rf ol ah tr od tk fo wi ou ge mo (nI n) ev se td fr to tn va im lo), r) := by
    rw [e]
    exact hQ
  refine r_aload_n dX5_exchanges_0 rfl ?_
  refine r_get bX5 4 (by decide) q1527 dX5_exchanges_1 rfl rfl ?_
  refine r_iload_n dX5_exchanges_4 rfl ?_
  refine r_ialdN dX5_exchanges_5 rfl (by omega) (Nat.le_of_ble_eq_true rfl) ?_
  refine r_istore_n dX5_exchanges_6 (Nat.le_of_ble_eq_true rfl) ?_
  refine r_aload_n dX5_exchanges_7 rfl ?_
  refine r_get bX5 4 (by decide) q1527 dX5_exchanges_8 rfl rfl ?_
  refine r_iload_n dX5_exchanges_11 rfl ?_
  refine r_aload_n dX5_exchanges_12 rfl ?_
  refine r_get bX5 4 (by decide) q1527 dX5_exchanges_13 rfl rfl ?_
  refine r_iload_n dX5_exchanges_16 rfl ?_
  refine r_ialdN dX5_exchanges_17 rfl (by omega) (Nat.le_of_ble_eq_true rfl) ?_
  refine r_iastN dX5_exchanges_18 rfl (by omega) (Nat.le_of_ble_eq_true rfl) ?_
  refine r_aload_n dX5_exchanges_19 rfl ?_
  refine r_get bX5 4 (by decide) q1527 dX5_exchanges_20 rfl rfl ?_
  refine r_iload_n dX5_exchanges_23 rfl ?_
  refine r_iload_n dX5_exchanges_24 rfl ?_
  refine r_iastN dX5_exchanges_25 rfl (by omega) (Nat.le_of_ble_eq_true rfl) ?_
  refine r_aload_n dX5_exchanges_26 rfl ?_
  refine r_iconst 1 dX5_exchanges_27 (by decide) ?_
  refine r_aload_n dX5_exchanges_28 rfl ?_
  refine r_get bX5 1 (by decide) q1524 dX5_exchanges_29 rfl rfl ?_
  refine r_ishl dX5_exchanges_32 ?_
  refine r_iconst 1 dX5_exchanges_33 (by decide) ?_
  refine r_isub dX5_exchanges_34 ?_
  rw [shl1m hn]
  refine r_callV (as := [_]) okX5_gladOf bX5 rfl rfl q1840 dX5_exchanges_35 (Nat.le_of_ble_eq_true rfl) rfl (Nat.le_of_ble_eq_true rfl) (Nat.le_of_ble_eq_true rfl) (Nat.le_of_ble_eq_true rfl) (pX5_gladOf hn hk ho (fun od2 hod => ?_))
  refine r_istore dX5_exchanges_38 (Nat.le_of_ble_eq_true rfl) ?_
  refine r_aload_n dX5_exchanges_40 rfl ?_
  refine r_get bX5 4 (by decide) q1527 dX5_exchanges_41 rfl rfl ?_
  refine r_iload_n dX5_exchanges_44 rfl ?_
  refine r_aload_n dX5_exchanges_45 rfl ?_
  refine r_get bX5 4 (by decide) q1527 dX5_exchanges_46 rfl rfl ?_
  refine r_iload_n dX5_exchanges_49 rfl ?_
  refine r_ialdN dX5_exchanges_50 rfl (by omega) (Nat.le_of_ble_eq_true rfl) ?_
  refine r_iastN dX5_exchanges_51 rfl (by omega) (Nat.le_of_ble_eq_true rfl) ?_
  refine r_aload_n dX5_exchanges_52 rfl ?_
  refine r_get bX5 4 (by decide) q1527 dX5_exchanges_53 rfl rfl ?_
  refine r_iload_n dX5_exchanges_56 rfl ?_
  refine r_iload_n dX5_exchanges_57 rfl ?_
  refine r_iastN dX5_exchanges_58 rfl (by omega) (Nat.le_of_ble_eq_true rfl) ?_
  refine r_iload dX5_exchanges_59 rfl ?_
  exact r_iret dX5_exchanges_61 rfl (Nat.le_of_ble_eq_true rfl) (Nat.le_of_ble_eq_true rfl) (hQ2 _ _ _ _ _)
theorem pX5_exchanged {l q : Int32} (hn : n ≤ 8) (hk : ∀ j, j < n → kd j = nI (kN j) ∧ kN j < 6) (ho : ∀ j, j < n → ow j ≠ -1) (hbad : (inB l 0 (nI n - 1) && (inB q 0 (nI n - 1) && l != q)) = false → Q (some (.int (-2))) ((mC th kd ow ag lk co sh hs tp hd rl ro (upd rf 2 (rf 2 + 1)) ol ah tr od tk fo wi ou ge mo (nI n) ev se td fr to tn va im lo), r)) (hok : ∀ x y, x < n → y < n → x ≠ y → l = nI x → q = nI y → ∀ (tr tk fo od : Nat → Int32) (lo : Int32), Q (some (.int (exF kN ow lk ag n th x y))) ((mC th kd ow ag lk co sh hs tp hd rl ro rf ol ah tr od tk fo wi ou ge mo (nI n) ev se td fr to tn va im lo), r)) : AMet mX5_exchanged 8 0 0 [.ref 0, .int l, .int q] ((mC th kd ow ag lk co sh hs tp hd rl ro rf ol ah tr od tk fo wi ou ge mo (nI n) ev se td fr to tn va im lo), r) Q := by
  refine AMet.ofRch rfl rfl (Nat.le_of_ble_eq_true rfl) ?_
  refine r_aload_n dX5_exchanged_0 rfl ?_
  refine r_iload_n dX5_exchanged_1 rfl ?_
  refine r_callV (as := [_]) okX5_isLooker bX5 rfl rfl q1668 dX5_exchanged_2 (Nat.le_of_ble_eq_true rfl) rfl (Nat.le_of_ble_eq_true rfl) (Nat.le_of_ble_eq_true rfl) (Nat.le_of_ble_eq_true rfl) (pX5_isLooker ?_)
  refine r_if_eq 30 dX5_exchanged_5 (by decide) (fun c_5 => ?_) (fun c_5 => ?_)
  · refine r_aload_n dX5_exchanged_30 rfl ?_
    refine r_bipush (-2) dX5_exchanged_31 (by decide) ?_
    refine r_callV (as := [_]) okX5_no bX5 rfl rfl q1633 dX5_exchanged_33 (Nat.le_of_ble_eq_true rfl) rfl (Nat.le_of_ble_eq_true rfl) (Nat.le_of_ble_eq_true rfl) (Nat.le_of_ble_eq_true rfl) (pX5_no 2 (by decide) (by decide) ?_)
    exact r_iret dX5_exchanged_36 rfl (Nat.le_of_ble_eq_true rfl) (Nat.le_of_ble_eq_true rfl) (hbad (by simp_all [b2i_0]))
  · refine r_aload_n dX5_exchanged_8 rfl ?_
    refine r_iload_n dX5_exchanged_9 rfl ?_
    refine r_callV (as := [_]) okX5_isLooker bX5 rfl rfl q1668 dX5_exchanged_10 (Nat.le_of_ble_eq_true rfl) rfl (Nat.le_of_ble_eq_true rfl) (Nat.le_of_ble_eq_true rfl) (Nat.le_of_ble_eq_true rfl) (pX5_isLooker ?_)
    refine r_if_eq 30 dX5_exchanged_13 (by decide) (fun c_13 => ?_) (fun c_13 => ?_)
    · refine r_aload_n dX5_exchanged_30 rfl ?_
      refine r_bipush (-2) dX5_exchanged_31 (by decide) ?_
      refine r_callV (as := [_]) okX5_no bX5 rfl rfl q1633 dX5_exchanged_33 (Nat.le_of_ble_eq_true rfl) rfl (Nat.le_of_ble_eq_true rfl) (Nat.le_of_ble_eq_true rfl) (Nat.le_of_ble_eq_true rfl) (pX5_no 2 (by decide) (by decide) ?_)
      exact r_iret dX5_exchanged_36 rfl (Nat.le_of_ble_eq_true rfl) (Nat.le_of_ble_eq_true rfl) (hbad (by simp_all [b2i_0]))
    · refine r_iload_n dX5_exchanged_16 rfl ?_
      refine r_iload_n dX5_exchanged_17 rfl ?_
      refine r_icmp_eq 30 dX5_exchanged_18 (by decide) (fun c_18 => ?_) (fun c_18 => ?_)
      · refine r_aload_n dX5_exchanged_30 rfl ?_
        refine r_bipush (-2) dX5_exchanged_31 (by decide) ?_
        refine r_callV (as := [_]) okX5_no bX5 rfl rfl q1633 dX5_exchanged_33 (Nat.le_of_ble_eq_true rfl) rfl (Nat.le_of_ble_eq_true rfl) (Nat.le_of_ble_eq_true rfl) (Nat.le_of_ble_eq_true rfl) (pX5_no 2 (by decide) (by decide) ?_)
        exact r_iret dX5_exchanged_36 rfl (Nat.le_of_ble_eq_true rfl) (Nat.le_of_ble_eq_true rfl) (hbad (by simp_all [b2i_0]))
      · obtain ⟨x, hx, rfl⟩ := inB_m (b2i_n.mp c_5) (by omega)
        obtain ⟨y, hy, rfl⟩ := inB_m (b2i_n.mp c_13) (by omega)
        have hxy : x ≠ y := fun z => c_18 (by rw [z])
        refine r_aload_n dX5_exchanged_21 rfl ?_
        refine r_iload_n dX5_exchanged_22 rfl ?_
        refine r_iload_n dX5_exchanged_23 rfl ?_
        refine r_callV (as := [_, _]) okX5_exchanges bX5 rfl rfl q1919 dX5_exchanged_24 (Nat.le_of_ble_eq_true rfl) rfl (Nat.le_of_ble_eq_true rfl) (Nat.le_of_ble_eq_true rfl) (Nat.le_of_ble_eq_true rfl) (pX5_exchanges hn hk ho hx hy hxy (fun tr tk fo od lo => ?_))
        refine r_goto 36 dX5_exchanged_27 (by decide) ?_
        exact r_iret dX5_exchanged_36 rfl (Nat.le_of_ble_eq_true rfl) (Nat.le_of_ble_eq_true rfl) (hok x y hx hy hxy rfl rfl _ _ _ _ _)
end MM
