set_option maxRecDepth 100000
/-! the reference: tell, feed, lookerOf, copy -/
def cpR (ro : Nat → Int64) (S D lo hi : Nat) : Nat → Int64 := fun z => if D + lo ≤ z ∧ z < D + hi then ro (S + (z - D)) else ro z
theorem cpR_0 (ro : Nat → Int64) (S D k : Nat) : cpR ro S D k k = ro := by
  funext z
  simp only [cpR]
  rw [if_neg (by omega)]
theorem cpR_up {ro : Nat → Int64} {S D k : Nat} (h : ¬ (D ≤ S + k ∧ S + k < D + k)) : vp_updL (cpR ro S D 0 k) (D + k) (cpR ro S D 0 k (S + k)) = cpR ro S D 0 (k + 1) := by
  have e : cpR ro S D 0 k (S + k) = ro (S + k) := by
    simp only [cpR]
    rw [if_neg (by omega)]
  rw [e]
  funext z
  by_cases hz : z = D + k
  · rw [hz, pk_uLs]
    simp [cpR]
  · rw [pk_uLn hz]
    simp only [cpR]
    by_cases h2 : D + 0 ≤ z ∧ z < D + k
    · rw [if_pos h2, if_pos (by omega)]
    · rw [if_neg h2, if_neg (by omega)]
theorem cpR_dn {ro : Nat → Int64} {S D k n : Nat} (hk : k < n) (h : S + k < D + k) : vp_updL (cpR ro S D (k + 1) n) (D + k) (cpR ro S D (k + 1) n (S + k)) = cpR ro S D k n := by
  have e : cpR ro S D (k + 1) n (S + k) = ro (S + k) := by
    simp only [cpR]
    rw [if_neg (by omega)]
  rw [e]
  funext z
  by_cases hz : z = D + k
  · rw [hz, pk_uLs]
    simp only [cpR]
    rw [if_pos (by omega)]
    congr 1
    omega
  · rw [pk_uLn hz]
    simp only [cpR]
    by_cases h2 : D + (k + 1) ≤ z ∧ z < D + n
    · rw [if_pos h2, if_pos (by omega)]
    · rw [if_neg h2, if_neg (by omega)]
theorem decS (x : Int32) : x + Int32.ofInt (-1) = x - 1 := by
  rw [show Int32.ofInt (-1) = -1 by decide, Int32.sub_eq_add_neg]
theorem mul40 (j i k : Nat) : (40 : Int32) * nI j + nI i + nI k = nI (40 * j + i + k) := by
  rw [show (40 : Int32) * nI j = nI (40 * j) from pk_mul 40 j, nI_add, nI_add]
/-- i + n over a row's length, as longs -/
theorem len_ok {i n : Nat} {L : Nat} (hi : i < 2 ^ 31) (hn : n < 2 ^ 31) (hL : L ≤ 40) : (0 < lg_cmp ((nI i).toInt64 + (nI n).toInt64) (nI L).toInt64) ↔ ¬ (i + n ≤ L) := by
  rw [lg_cmp_gt, nI_l hi, nI_l hn, nI_l (by omega), lN_add]
  rw [pk_lLT (by omega) (by omega)]
  omega
theorem cpOk {i j n : Int32} {a b : Nat} (h1 : ¬ n < 0) (h2 : ¬ i < 0) (h3 : ¬ j < 0) (h4 : ¬ 0 < lg_cmp (i.toInt64 + n.toInt64) (nI a).toInt64) (h5 : lg_cmp (j.toInt64 + n.toInt64) (nI b).toInt64 ≤ 0) (ha : a ≤ 40) (hb : b ≤ 40) : ∃ I J N : Nat, i = nI I ∧ j = nI J ∧ n = nI N ∧ I + N ≤ a ∧ J + N ≤ b := by
  obtain ⟨N, hN, rfl⟩ := nI_of h1
  obtain ⟨I, hI, rfl⟩ := nI_of h2
  obtain ⟨J, hJ, rfl⟩ := nI_of h3
  rw [len_ok hI hN ha] at h4
  have h6 : ¬ 0 < lg_cmp ((nI J).toInt64 + (nI N).toInt64) (nI b).toInt64 := Int32.not_lt.mpr h5
  rw [len_ok hJ hN hb] at h6
  exact ⟨I, J, N, rfl, rfl, rfl, Classical.not_not.mp h4, Classical.not_not.mp h6⟩
theorem cpBad {i j n : Int32} {a b : Nat} (h : Nonempty (PLift (n < 0 ∨ i < 0 ∨ j < 0 ∨ 0 < lg_cmp (i.toInt64 + n.toInt64) (nI a).toInt64 ∨ ¬ lg_cmp (j.toInt64 + n.toInt64) (nI b).toInt64 ≤ 0))) (ha : a ≤ 40) (hb : b ≤ 40) : ∀ I J N : Nat, I < 2 ^ 31 → J < 2 ^ 31 → N < 2 ^ 31 → i = nI I → j = nI J → n = nI N → I + N ≤ a → ¬ J + N ≤ b := by
  obtain ⟨⟨h⟩⟩ := h
  intro I J N hI hJ hN e1 e2 e3 g1 g2
  subst e1 e2 e3
  rcases h with h | h | h | h | h
  · exact nI_pos hN h
  · exact nI_pos hI h
  · exact nI_pos hJ h
  · exact (len_ok hI hN ha).mp h g1
  · exact (len_ok hJ hN hb).mp (Int32.not_le.mp h) g2
section MM
variable {th kd ow ag lk co sh hs tp hd rl : Nat → Int32} {ro : Nat → Int64} {rf ol ah tr od tk fo wi ou ge mo : Nat → Int32} {my ev se td fr to tn va im lo : Int32} {r : List AC × List AC × List AC} {Q : Option Value → AHp → Prop}
theorem pX5_tell {n : Nat} {l w v : Int32} (hn : n ≤ 8) (hbad : (inB l 0 (nI n - 1) && tellB w v) = false → Q (some (.int (-2))) ((mC th kd ow ag lk co sh hs tp hd rl ro (upd rf 2 (rf 2 + 1)) ol ah tr od tk fo wi ou ge mo (nI n) ev se td fr to tn va im lo), r)) (h0 : ∀ j, j < n → l = nI j → w = 0 → inB v 0 12 = true → Q (some (.int (co j))) ((mC th kd ow ag lk (upd co j v) sh hs tp hd rl ro rf ol ah tr od tk fo wi ou ge mo (nI n) ev se td fr to tn va im lo), r)) (h1 : ∀ j, j < n → l = nI j → w = 1 → inB v 0 99 = true → Q (some (.int (ag j))) ((mC th kd ow (upd ag j v) lk co sh hs tp hd rl ro rf ol ah tr od tk fo wi ou ge mo (nI n) ev se td fr to tn va im lo), r)) (h2 : ∀ j, j < n → l = nI j → w = 2 → inB v (-1) 7 = true → Q (some (.int (sh j))) ((mC th kd ow ag lk co (upd sh j v) hs tp hd rl ro rf ol ah tr od tk fo wi ou ge mo (nI n) ev se td fr to tn va im lo), r)) : AMet mX5_tell 3 0 0 [.ref 0, .int l, .int w, .int v] ((mC th kd ow ag lk co sh hs tp hd rl ro rf ol ah tr od tk fo wi ou ge mo (nI n) ev se td fr to tn va im lo), r) Q := by
  refine AMet.ofRch rfl rfl (Nat.le_of_ble_eq_true rfl) ?_
  by_cases w0 : w = 0
  · subst w0
    refine r_aload_n dX5_tell_0 rfl ?_
    refine r_iload_n dX5_tell_1 rfl ?_
    refine r_callV (as := [_]) okX5_isLooker bX5 rfl rfl q1668 dX5_tell_2 (Nat.le_of_ble_eq_true rfl) rfl (Nat.le_of_ble_eq_true rfl) (Nat.le_of_ble_eq_true rfl) (Nat.le_of_ble_eq_true rfl) (pX5_isLooker ?_)
    refine r_if_eq 17 dX5_tell_5 (by decide) (fun c_5 => ?_) (fun c_5 => ?_)
    · refine r_aload_n dX5_tell_17 rfl ?_
      refine r_bipush (-2) dX5_tell_18 (by decide) ?_
      refine r_callV (as := [_]) okX5_no bX5 rfl rfl q1633 dX5_tell_20 (Nat.le_of_ble_eq_true rfl) rfl (Nat.le_of_ble_eq_true rfl) (Nat.le_of_ble_eq_true rfl) (Nat.le_of_ble_eq_true rfl) (pX5_no 2 (by decide) (by decide) ?_)
      exact r_iret dX5_tell_23 rfl (Nat.le_of_ble_eq_true rfl) (Nat.le_of_ble_eq_true rfl) (hbad (by simp_all [b2i_0, tellB]))
    · refine r_iload_n dX5_tell_8 rfl ?_
      refine r_iconst 0 dX5_tell_9 (by decide) ?_
      refine r_iconst 2 dX5_tell_10 (by decide) ?_
      refine r_callS (as := [_, _, _]) okX5_within q1630 dX5_tell_11 (Nat.le_of_ble_eq_true rfl) rfl (Nat.le_of_ble_eq_true rfl) (Nat.le_of_ble_eq_true rfl) (Nat.le_of_ble_eq_true rfl) (pX5_within ?_)
      refine r_if_ne 24 dX5_tell_14 (by decide) (fun _ => ?_) (fun c_ => absurd c_ (by decide))
      refine r_iload_n dX5_tell_24 rfl ?_
      refine r_iload_n dX5_tell_25 rfl ?_
      refine r_iconst 2 dX5_tell_26 (by decide) ?_
      refine r_icmp_ne 34 dX5_tell_27 (by decide) (fun _ => ?_) (fun c_ => absurd c_ (by decide))
      refine r_iconst 0 dX5_tell_34 (by decide) ?_
      refine r_iload_n dX5_tell_35 rfl ?_
      refine r_if_ne 44 dX5_tell_36 (by decide) (fun c_ => absurd (rfl) c_) (fun _ => ?_)
      refine r_bipush 12 dX5_tell_39 (by decide) ?_
      refine r_goto 56 dX5_tell_41 (by decide) ?_
      refine r_callS (as := [_, _, _]) okX5_within q1630 dX5_tell_56 (Nat.le_of_ble_eq_true rfl) rfl (Nat.le_of_ble_eq_true rfl) (Nat.le_of_ble_eq_true rfl) (Nat.le_of_ble_eq_true rfl) (pX5_within ?_)
      refine r_if_ne 69 dX5_tell_59 (by decide) (fun c_59 => ?_) (fun c_59 => ?_)
      · obtain ⟨j, hj, rfl⟩ := inB_m (b2i_n.mp c_5) (by omega)
        refine r_iload_n dX5_tell_69 rfl ?_
        refine r_if_ne 82 dX5_tell_70 (by decide) (fun c_ => absurd (rfl) c_) (fun _ => ?_)
        refine r_aload_n dX5_tell_73 rfl ?_
        refine r_get bX5 6 (by decide) q1529 dX5_tell_74 rfl rfl ?_
        refine r_iload_n dX5_tell_77 rfl ?_
        refine r_ialdN dX5_tell_78 rfl (by omega) (Nat.le_of_ble_eq_true rfl) ?_
        refine r_goto 102 dX5_tell_79 (by decide) ?_
        refine r_istore dX5_tell_102 (Nat.le_of_ble_eq_true rfl) ?_
        refine r_iload_n dX5_tell_104 rfl ?_
        refine r_if_ne 118 dX5_tell_105 (by decide) (fun c_ => absurd (rfl) c_) (fun _ => ?_)
        refine r_aload_n dX5_tell_108 rfl ?_
        refine r_get bX5 6 (by decide) q1529 dX5_tell_109 rfl rfl ?_
        refine r_iload_n dX5_tell_112 rfl ?_
        refine r_iload_n dX5_tell_113 rfl ?_
        refine r_iastN dX5_tell_114 rfl (by omega) (Nat.le_of_ble_eq_true rfl) ?_
        refine r_goto 140 dX5_tell_115 (by decide) ?_
        refine r_iload dX5_tell_140 rfl ?_
        exact r_iret dX5_tell_142 rfl (Nat.le_of_ble_eq_true rfl) (Nat.le_of_ble_eq_true rfl) (h0 j hj rfl rfl (b2i_n.mp c_59))
      · refine r_aload_n dX5_tell_62 rfl ?_
        refine r_bipush (-2) dX5_tell_63 (by decide) ?_
        refine r_callV (as := [_]) okX5_no bX5 rfl rfl q1633 dX5_tell_65 (Nat.le_of_ble_eq_true rfl) rfl (Nat.le_of_ble_eq_true rfl) (Nat.le_of_ble_eq_true rfl) (Nat.le_of_ble_eq_true rfl) (pX5_no 2 (by decide) (by decide) ?_)
        exact r_iret dX5_tell_68 rfl (Nat.le_of_ble_eq_true rfl) (Nat.le_of_ble_eq_true rfl) (hbad (by simp_all [b2i_0, tellB]))
  · by_cases w1 : w = 1
    · subst w1
      refine r_aload_n dX5_tell_0 rfl ?_
      refine r_iload_n dX5_tell_1 rfl ?_
      refine r_callV (as := [_]) okX5_isLooker bX5 rfl rfl q1668 dX5_tell_2 (Nat.le_of_ble_eq_true rfl) rfl (Nat.le_of_ble_eq_true rfl) (Nat.le_of_ble_eq_true rfl) (Nat.le_of_ble_eq_true rfl) (pX5_isLooker ?_)
      refine r_if_eq 17 dX5_tell_5 (by decide) (fun c_5 => ?_) (fun c_5 => ?_)
      · refine r_aload_n dX5_tell_17 rfl ?_
        refine r_bipush (-2) dX5_tell_18 (by decide) ?_
        refine r_callV (as := [_]) okX5_no bX5 rfl rfl q1633 dX5_tell_20 (Nat.le_of_ble_eq_true rfl) rfl (Nat.le_of_ble_eq_true rfl) (Nat.le_of_ble_eq_true rfl) (Nat.le_of_ble_eq_true rfl) (pX5_no 2 (by decide) (by decide) ?_)
        exact r_iret dX5_tell_23 rfl (Nat.le_of_ble_eq_true rfl) (Nat.le_of_ble_eq_true rfl) (hbad (by simp_all [b2i_0, tellB]))
      · refine r_iload_n dX5_tell_8 rfl ?_
        refine r_iconst 0 dX5_tell_9 (by decide) ?_
        refine r_iconst 2 dX5_tell_10 (by decide) ?_
        refine r_callS (as := [_, _, _]) okX5_within q1630 dX5_tell_11 (Nat.le_of_ble_eq_true rfl) rfl (Nat.le_of_ble_eq_true rfl) (Nat.le_of_ble_eq_true rfl) (Nat.le_of_ble_eq_true rfl) (pX5_within ?_)
        refine r_if_ne 24 dX5_tell_14 (by decide) (fun _ => ?_) (fun c_ => absurd c_ (by decide))
        refine r_iload_n dX5_tell_24 rfl ?_
        refine r_iload_n dX5_tell_25 rfl ?_
        refine r_iconst 2 dX5_tell_26 (by decide) ?_
        refine r_icmp_ne 34 dX5_tell_27 (by decide) (fun _ => ?_) (fun c_ => absurd c_ (by decide))
        refine r_iconst 0 dX5_tell_34 (by decide) ?_
        refine r_iload_n dX5_tell_35 rfl ?_
        refine r_if_ne 44 dX5_tell_36 (by decide) (fun _ => ?_) (fun c_ => absurd c_ (by decide))
        refine r_iload_n dX5_tell_44 rfl ?_
        refine r_iconst 1 dX5_tell_45 (by decide) ?_
        refine r_icmp_ne 54 dX5_tell_46 (by decide) (fun c_ => absurd (rfl) c_) (fun _ => ?_)
        refine r_bipush 99 dX5_tell_49 (by decide) ?_
        refine r_goto 56 dX5_tell_51 (by decide) ?_
        refine r_callS (as := [_, _, _]) okX5_within q1630 dX5_tell_56 (Nat.le_of_ble_eq_true rfl) rfl (Nat.le_of_ble_eq_true rfl) (Nat.le_of_ble_eq_true rfl) (Nat.le_of_ble_eq_true rfl) (pX5_within ?_)
        refine r_if_ne 69 dX5_tell_59 (by decide) (fun c_59 => ?_) (fun c_59 => ?_)
        · obtain ⟨j, hj, rfl⟩ := inB_m (b2i_n.mp c_5) (by omega)
          refine r_iload_n dX5_tell_69 rfl ?_
          refine r_if_ne 82 dX5_tell_70 (by decide) (fun _ => ?_) (fun c_ => absurd c_ (by decide))
          refine r_iload_n dX5_tell_82 rfl ?_
          refine r_iconst 1 dX5_tell_83 (by decide) ?_
          refine r_icmp_ne 96 dX5_tell_84 (by decide) (fun c_ => absurd (rfl) c_) (fun _ => ?_)
          refine r_aload_n dX5_tell_87 rfl ?_
          refine r_get bX5 4 (by decide) q1527 dX5_tell_88 rfl rfl ?_
          refine r_iload_n dX5_tell_91 rfl ?_
          refine r_ialdN dX5_tell_92 rfl (by omega) (Nat.le_of_ble_eq_true rfl) ?_
          refine r_goto 102 dX5_tell_93 (by decide) ?_
          refine r_istore dX5_tell_102 (Nat.le_of_ble_eq_true rfl) ?_
          refine r_iload_n dX5_tell_104 rfl ?_
          refine r_if_ne 118 dX5_tell_105 (by decide) (fun _ => ?_) (fun c_ => absurd c_ (by decide))
          refine r_iload_n dX5_tell_118 rfl ?_
          refine r_iconst 1 dX5_tell_119 (by decide) ?_
          refine r_icmp_ne 133 dX5_tell_120 (by decide) (fun c_ => absurd (rfl) c_) (fun _ => ?_)
          refine r_aload_n dX5_tell_123 rfl ?_
          refine r_get bX5 4 (by decide) q1527 dX5_tell_124 rfl rfl ?_
          refine r_iload_n dX5_tell_127 rfl ?_
          refine r_iload_n dX5_tell_128 rfl ?_
          refine r_iastN dX5_tell_129 rfl (by omega) (Nat.le_of_ble_eq_true rfl) ?_
          refine r_goto 140 dX5_tell_130 (by decide) ?_
          refine r_iload dX5_tell_140 rfl ?_
          exact r_iret dX5_tell_142 rfl (Nat.le_of_ble_eq_true rfl) (Nat.le_of_ble_eq_true rfl) (h1 j hj rfl rfl (b2i_n.mp c_59))
        · refine r_aload_n dX5_tell_62 rfl ?_
          refine r_bipush (-2) dX5_tell_63 (by decide) ?_
          refine r_callV (as := [_]) okX5_no bX5 rfl rfl q1633 dX5_tell_65 (Nat.le_of_ble_eq_true rfl) rfl (Nat.le_of_ble_eq_true rfl) (Nat.le_of_ble_eq_true rfl) (Nat.le_of_ble_eq_true rfl) (pX5_no 2 (by decide) (by decide) ?_)
          exact r_iret dX5_tell_68 rfl (Nat.le_of_ble_eq_true rfl) (Nat.le_of_ble_eq_true rfl) (hbad (by simp_all [b2i_0, tellB]))
    · by_cases w2 : w = 2
      · subst w2
        refine r_aload_n dX5_tell_0 rfl ?_
        refine r_iload_n dX5_tell_1 rfl ?_
        refine r_callV (as := [_]) okX5_isLooker bX5 rfl rfl q1668 dX5_tell_2 (Nat.le_of_ble_eq_true rfl) rfl (Nat.le_of_ble_eq_true rfl) (Nat.le_of_ble_eq_true rfl) (Nat.le_of_ble_eq_true rfl) (pX5_isLooker ?_)
        refine r_if_eq 17 dX5_tell_5 (by decide) (fun c_5 => ?_) (fun c_5 => ?_)
        · refine r_aload_n dX5_tell_17 rfl ?_
          refine r_bipush (-2) dX5_tell_18 (by decide) ?_
          refine r_callV (as := [_]) okX5_no bX5 rfl rfl q1633 dX5_tell_20 (Nat.le_of_ble_eq_true rfl) rfl (Nat.le_of_ble_eq_true rfl) (Nat.le_of_ble_eq_true rfl) (Nat.le_of_ble_eq_true rfl) (pX5_no 2 (by decide) (by decide) ?_)
          exact r_iret dX5_tell_23 rfl (Nat.le_of_ble_eq_true rfl) (Nat.le_of_ble_eq_true rfl) (hbad (by simp_all [b2i_0, tellB]))
        · refine r_iload_n dX5_tell_8 rfl ?_
          refine r_iconst 0 dX5_tell_9 (by decide) ?_
          refine r_iconst 2 dX5_tell_10 (by decide) ?_
          refine r_callS (as := [_, _, _]) okX5_within q1630 dX5_tell_11 (Nat.le_of_ble_eq_true rfl) rfl (Nat.le_of_ble_eq_true rfl) (Nat.le_of_ble_eq_true rfl) (Nat.le_of_ble_eq_true rfl) (pX5_within ?_)
          refine r_if_ne 24 dX5_tell_14 (by decide) (fun _ => ?_) (fun c_ => absurd c_ (by decide))
          refine r_iload_n dX5_tell_24 rfl ?_
          refine r_iload_n dX5_tell_25 rfl ?_
          refine r_iconst 2 dX5_tell_26 (by decide) ?_
          refine r_icmp_ne 34 dX5_tell_27 (by decide) (fun c_ => absurd (rfl) c_) (fun _ => ?_)
          refine r_iconst (-1) dX5_tell_30 (by decide) ?_
          refine r_goto 35 dX5_tell_31 (by decide) ?_
          refine r_iload_n dX5_tell_35 rfl ?_
          refine r_if_ne 44 dX5_tell_36 (by decide) (fun _ => ?_) (fun c_ => absurd c_ (by decide))
          refine r_iload_n dX5_tell_44 rfl ?_
          refine r_iconst 1 dX5_tell_45 (by decide) ?_
          refine r_icmp_ne 54 dX5_tell_46 (by decide) (fun _ => ?_) (fun c_ => absurd c_ (by decide))
          refine r_bipush 7 dX5_tell_54 (by decide) ?_
          refine r_callS (as := [_, _, _]) okX5_within q1630 dX5_tell_56 (Nat.le_of_ble_eq_true rfl) rfl (Nat.le_of_ble_eq_true rfl) (Nat.le_of_ble_eq_true rfl) (Nat.le_of_ble_eq_true rfl) (pX5_within ?_)
          refine r_if_ne 69 dX5_tell_59 (by decide) (fun c_59 => ?_) (fun c_59 => ?_)
          · obtain ⟨j, hj, rfl⟩ := inB_m (b2i_n.mp c_5) (by omega)
            refine r_iload_n dX5_tell_69 rfl ?_
            refine r_if_ne 82 dX5_tell_70 (by decide) (fun _ => ?_) (fun c_ => absurd c_ (by decide))
            refine r_iload_n dX5_tell_82 rfl ?_
            refine r_iconst 1 dX5_tell_83 (by decide) ?_
            refine r_icmp_ne 96 dX5_tell_84 (by decide) (fun _ => ?_) (fun c_ => absurd c_ (by decide))
            refine r_aload_n dX5_tell_96 rfl ?_
            refine r_get bX5 7 (by decide) q1530 dX5_tell_97 rfl rfl ?_
            refine r_iload_n dX5_tell_100 rfl ?_
            refine r_ialdN dX5_tell_101 rfl (by omega) (Nat.le_of_ble_eq_true rfl) ?_
            refine r_istore dX5_tell_102 (Nat.le_of_ble_eq_true rfl) ?_
            refine r_iload_n dX5_tell_104 rfl ?_
            refine r_if_ne 118 dX5_tell_105 (by decide) (fun _ => ?_) (fun c_ => absurd c_ (by decide))
            refine r_iload_n dX5_tell_118 rfl ?_
            refine r_iconst 1 dX5_tell_119 (by decide) ?_
            refine r_icmp_ne 133 dX5_tell_120 (by decide) (fun _ => ?_) (fun c_ => absurd c_ (by decide))
            refine r_aload_n dX5_tell_133 rfl ?_
            refine r_get bX5 7 (by decide) q1530 dX5_tell_134 rfl rfl ?_
            refine r_iload_n dX5_tell_137 rfl ?_
            refine r_iload_n dX5_tell_138 rfl ?_
            refine r_iastN dX5_tell_139 rfl (by omega) (Nat.le_of_ble_eq_true rfl) ?_
            refine r_iload dX5_tell_140 rfl ?_
            exact r_iret dX5_tell_142 rfl (Nat.le_of_ble_eq_true rfl) (Nat.le_of_ble_eq_true rfl) (h2 j hj rfl rfl (b2i_n.mp c_59))
          · refine r_aload_n dX5_tell_62 rfl ?_
            refine r_bipush (-2) dX5_tell_63 (by decide) ?_
            refine r_callV (as := [_]) okX5_no bX5 rfl rfl q1633 dX5_tell_65 (Nat.le_of_ble_eq_true rfl) rfl (Nat.le_of_ble_eq_true rfl) (Nat.le_of_ble_eq_true rfl) (Nat.le_of_ble_eq_true rfl) (pX5_no 2 (by decide) (by decide) ?_)
            exact r_iret dX5_tell_68 rfl (Nat.le_of_ble_eq_true rfl) (Nat.le_of_ble_eq_true rfl) (hbad (by simp_all [b2i_0, tellB]))
      · have hw : inB w 0 2 = false := by
          cases hb : inB w 0 2 with
          | false => rfl
          | true =>
            obtain ⟨z, hz, rfl⟩ := inB_ex 2 (by decide) hb
            rcases (show z = 0 ∨ z = 1 ∨ z = 2 by omega) with rfl | rfl | rfl
            · exact absurd rfl w0
            · exact absurd rfl w1
            · exact absurd rfl w2
        refine r_aload_n dX5_tell_0 rfl ?_
        refine r_iload_n dX5_tell_1 rfl ?_
        refine r_callV (as := [_]) okX5_isLooker bX5 rfl rfl q1668 dX5_tell_2 (Nat.le_of_ble_eq_true rfl) rfl (Nat.le_of_ble_eq_true rfl) (Nat.le_of_ble_eq_true rfl) (Nat.le_of_ble_eq_true rfl) (pX5_isLooker ?_)
        refine r_if_eq 17 dX5_tell_5 (by decide) (fun c_5 => ?_) (fun c_5 => ?_)
        · refine r_aload_n dX5_tell_17 rfl ?_
          refine r_bipush (-2) dX5_tell_18 (by decide) ?_
          refine r_callV (as := [_]) okX5_no bX5 rfl rfl q1633 dX5_tell_20 (Nat.le_of_ble_eq_true rfl) rfl (Nat.le_of_ble_eq_true rfl) (Nat.le_of_ble_eq_true rfl) (Nat.le_of_ble_eq_true rfl) (pX5_no 2 (by decide) (by decide) ?_)
          exact r_iret dX5_tell_23 rfl (Nat.le_of_ble_eq_true rfl) (Nat.le_of_ble_eq_true rfl) (hbad (by simp [tellB, w0, w1, w2]))
        · refine r_iload_n dX5_tell_8 rfl ?_
          refine r_iconst 0 dX5_tell_9 (by decide) ?_
          refine r_iconst 2 dX5_tell_10 (by decide) ?_
          refine r_callS (as := [_, _, _]) okX5_within q1630 dX5_tell_11 (Nat.le_of_ble_eq_true rfl) rfl (Nat.le_of_ble_eq_true rfl) (Nat.le_of_ble_eq_true rfl) (Nat.le_of_ble_eq_true rfl) (pX5_within ?_)
          refine r_if_ne 24 dX5_tell_14 (by decide) (fun c_ => absurd (b2i_0.mpr hw) c_) (fun _ => ?_)
          refine r_aload_n dX5_tell_17 rfl ?_
          refine r_bipush (-2) dX5_tell_18 (by decide) ?_
          refine r_callV (as := [_]) okX5_no bX5 rfl rfl q1633 dX5_tell_20 (Nat.le_of_ble_eq_true rfl) rfl (Nat.le_of_ble_eq_true rfl) (Nat.le_of_ble_eq_true rfl) (Nat.le_of_ble_eq_true rfl) (pX5_no 2 (by decide) (by decide) ?_)
          exact r_iret dX5_tell_23 rfl (Nat.le_of_ble_eq_true rfl) (Nat.le_of_ble_eq_true rfl) (hbad (by simp [tellB, w0, w1, w2]))
theorem pX5_feed {t : Nat} {c : Int32} (ht : t ≤ 250) (hbad : inB c 0 255 = false → Q (some (.int (-2))) ((mC th kd ow ag lk co sh hs tp hd rl ro (upd rf 2 (rf 2 + 1)) ol ah tr od tk fo wi ou ge mo my ev se (nI t) fr to tn va im lo), r)) (hfull : inB c 0 255 = true → t = 250 → Q (some (.int (-6))) ((mC th kd ow ag lk co sh hs tp hd rl ro (upd rf 6 (rf 6 + 1)) ol ah tr od tk fo wi ou ge mo my ev se (nI t) fr to tn va im lo), r)) (hok : inB c 0 255 = true → t < 250 → Q (some (.int (nI (t + 1)))) ((mC th kd ow ag lk co sh hs (upd tp t c) hd rl ro rf ol ah tr od tk fo wi ou ge mo my ev se (nI (t + 1)) fr to tn va im lo), r)) : AMet mX5_feed 3 0 0 [.ref 0, .int c] ((mC th kd ow ag lk co sh hs tp hd rl ro rf ol ah tr od tk fo wi ou ge mo my ev se (nI t) fr to tn va im lo), r) Q := by
  refine AMet.ofRch rfl rfl (Nat.le_of_ble_eq_true rfl) ?_
  refine r_iload_n dX5_feed_0 rfl ?_
  refine r_iconst 0 dX5_feed_1 (by decide) ?_
  refine r_sipush 255 dX5_feed_2 (by decide) ?_
  refine r_callS (as := [_, _, _]) okX5_within q1630 dX5_feed_5 (Nat.le_of_ble_eq_true rfl) rfl (Nat.le_of_ble_eq_true rfl) (Nat.le_of_ble_eq_true rfl) (Nat.le_of_ble_eq_true rfl) (pX5_within ?_)
  refine r_if_ne 18 dX5_feed_8 (by decide) (fun c_8 => ?_) (fun c_8 => ?_)
  · by_cases h8 : t = 250
    · subst h8
      refine r_aload_n dX5_feed_18 rfl ?_
      refine r_get bX5 11 (by decide) q1534 dX5_feed_19 rfl rfl ?_
      refine r_sipush 250 dX5_feed_22 (by decide) ?_
      refine r_icmp_ne 35 dX5_feed_25 (by decide) (fun c_ => absurd (rfl) c_) (fun _ => ?_)
      refine r_aload_n dX5_feed_28 rfl ?_
      refine r_bipush (-6) dX5_feed_29 (by decide) ?_
      refine r_callV (as := [_]) okX5_no bX5 rfl rfl q1633 dX5_feed_31 (Nat.le_of_ble_eq_true rfl) rfl (Nat.le_of_ble_eq_true rfl) (Nat.le_of_ble_eq_true rfl) (Nat.le_of_ble_eq_true rfl) (pX5_no 6 (by decide) (by decide) ?_)
      exact r_iret dX5_feed_34 rfl (Nat.le_of_ble_eq_true rfl) (Nat.le_of_ble_eq_true rfl) (hfull (b2i_n.mp c_8) rfl)
    · refine r_aload_n dX5_feed_18 rfl ?_
      refine r_get bX5 11 (by decide) q1534 dX5_feed_19 rfl rfl ?_
      refine r_sipush 250 dX5_feed_22 (by decide) ?_
      refine r_icmp_ne 35 dX5_feed_25 (by decide) (fun _ => ?_) (fun c_ => absurd c_ (fun z => h8 ((nI_eq (by omega) (by decide)).mp z)))
      refine r_aload_n dX5_feed_35 rfl ?_
      refine r_get bX5 12 (by decide) q1535 dX5_feed_36 rfl rfl ?_
      refine r_aload_n dX5_feed_39 rfl ?_
      refine r_dup dX5_feed_40 rfl ?_
      refine r_get bX5 11 (by decide) q1534 dX5_feed_41 rfl rfl ?_
      refine r_dup_x1 dX5_feed_44 rfl rfl ?_
      refine r_iconst 1 dX5_feed_45 (by decide) ?_
      refine r_iadd dX5_feed_46 ?_
      rw [nI_1]
      refine r_put bX5 11 (by decide) rfl q1534 dX5_feed_47 rfl rfl rfl (Nat.le_of_ble_eq_true rfl) ?_
      refine r_iload_n dX5_feed_50 rfl ?_
      refine r_iastN dX5_feed_51 rfl (by omega) (Nat.le_of_ble_eq_true rfl) ?_
      refine r_aload_n dX5_feed_52 rfl ?_
      refine r_get bX5 11 (by decide) q1534 dX5_feed_53 rfl rfl ?_
      exact r_iret dX5_feed_56 rfl (Nat.le_of_ble_eq_true rfl) (Nat.le_of_ble_eq_true rfl) (hok (b2i_n.mp c_8) (by omega))
  · refine r_aload_n dX5_feed_11 rfl ?_
    refine r_bipush (-2) dX5_feed_12 (by decide) ?_
    refine r_callV (as := [_]) okX5_no bX5 rfl rfl q1633 dX5_feed_14 (Nat.le_of_ble_eq_true rfl) rfl (Nat.le_of_ble_eq_true rfl) (Nat.le_of_ble_eq_true rfl) (Nat.le_of_ble_eq_true rfl) (pX5_no 2 (by decide) (by decide) ?_)
    exact r_iret dX5_feed_17 rfl (Nat.le_of_ble_eq_true rfl) (Nat.le_of_ble_eq_true rfl) (hbad (b2i_0.mp c_8))
theorem pX5_lookerOf_bad {n : Nat} {l w : Int32} (hb : inB l 0 (nI n - 1) = false) (hQ : Q (some (.int (-2))) ((mC th kd ow ag lk co sh hs tp hd rl ro (upd rf 2 (rf 2 + 1)) ol ah tr od tk fo wi ou ge mo (nI n) ev se td fr to tn va im lo), r)) : AMet mX5_lookerOf 3 0 0 [.ref 0, .int l, .int w] ((mC th kd ow ag lk co sh hs tp hd rl ro rf ol ah tr od tk fo wi ou ge mo (nI n) ev se td fr to tn va im lo), r) Q := by
  refine AMet.ofRch rfl rfl (Nat.le_of_ble_eq_true rfl) ?_
  refine r_aload_n dX5_lookerOf_0 rfl ?_
  refine r_iload_n dX5_lookerOf_1 rfl ?_
  refine r_callV (as := [_]) okX5_isLooker bX5 rfl rfl q1668 dX5_lookerOf_2 (Nat.le_of_ble_eq_true rfl) rfl (Nat.le_of_ble_eq_true rfl) (Nat.le_of_ble_eq_true rfl) (Nat.le_of_ble_eq_true rfl) (pX5_isLooker ?_)
  refine r_if_ne 15 dX5_lookerOf_5 (by decide) (fun c_ => absurd (b2i_0.mpr hb) c_) (fun _ => ?_)
  refine r_aload_n dX5_lookerOf_8 rfl ?_
  refine r_bipush (-2) dX5_lookerOf_9 (by decide) ?_
  refine r_callV (as := [_]) okX5_no bX5 rfl rfl q1633 dX5_lookerOf_11 (Nat.le_of_ble_eq_true rfl) rfl (Nat.le_of_ble_eq_true rfl) (Nat.le_of_ble_eq_true rfl) (Nat.le_of_ble_eq_true rfl) (pX5_no 2 (by decide) (by decide) ?_)
  exact r_iret dX5_lookerOf_14 rfl (Nat.le_of_ble_eq_true rfl) (Nat.le_of_ble_eq_true rfl) (hQ)
/-- what is told of a looker by a number from 0 to 5 -/
def loOf (kd ow ag lk co sh : Nat → Int32) (w j : Nat) : Int32 := match w with
  | 0 => kd j
  | 1 => ow j
  | 2 => ag j
  | 3 => lk j
  | 4 => co j
  | _ => sh j
theorem pX5_lookerOf {n j : Nat} {w : Int32} (hn : n ≤ 8) (hj : j < n) (h05 : ∀ z, z < 6 → w = nI z → Q (some (.int (loOf kd ow ag lk co sh z j))) ((mC th kd ow ag lk co sh hs tp hd rl ro rf ol ah tr od tk fo wi ou ge mo (nI n) ev se td fr to tn va im lo), r)) (hh : ∀ z, z < 8 → w = nI (10 + z) → Q (some (.int (hs (8 * j + z)))) ((mC th kd ow ag lk co sh hs tp hd rl ro rf ol ah tr od tk fo wi ou ge mo (nI n) ev se td fr to tn va im lo), r)) (hbad : inB w 0 5 = false → inB (w - 10) 0 7 = false → Q (some (.int (-2))) ((mC th kd ow ag lk co sh hs tp hd rl ro (upd rf 2 (rf 2 + 1)) ol ah tr od tk fo wi ou ge mo (nI n) ev se td fr to tn va im lo), r)) : AMet mX5_lookerOf 3 0 0 [.ref 0, .int (nI j), .int w] ((mC th kd ow ag lk co sh hs tp hd rl ro rf ol ah tr od tk fo wi ou ge mo (nI n) ev se td fr to tn va im lo), r) Q := by
  refine AMet.ofRch rfl rfl (Nat.le_of_ble_eq_true rfl) ?_
  have hbr : ¬ b2i (inB (nI j) 0 (nI n - 1)) = 0 := b2i_n.mpr (inB_mI hj (by omega))
  cases hb : inB w 0 5 with
  | true =>
    obtain ⟨z, hz, rfl⟩ := inB_ex 5 (by decide) hb
    rcases (show z = 0 ∨ z = 1 ∨ z = 2 ∨ z = 3 ∨ z = 4 ∨ z = 5 by omega) with rfl | rfl | rfl | rfl | rfl | rfl
    · refine r_aload_n dX5_lookerOf_0 rfl ?_
      refine r_iload_n dX5_lookerOf_1 rfl ?_
      refine r_callV (as := [_]) okX5_isLooker bX5 rfl rfl q1668 dX5_lookerOf_2 (Nat.le_of_ble_eq_true rfl) rfl (Nat.le_of_ble_eq_true rfl) (Nat.le_of_ble_eq_true rfl) (Nat.le_of_ble_eq_true rfl) (pX5_isLooker ?_)
      refine r_if_ne 15 dX5_lookerOf_5 (by decide) (fun _ => ?_) (fun c_ => absurd c_ (hbr))
      refine r_iload_n dX5_lookerOf_15 rfl ?_
      refine r_tableIn 56 dX5_lookerOf_16 (by decide) (by decide) rfl (by decide) ?_
      refine r_aload_n dX5_lookerOf_56 rfl ?_
      refine r_get bX5 2 (by decide) q1525 dX5_lookerOf_57 rfl rfl ?_
      refine r_iload_n dX5_lookerOf_60 rfl ?_
      refine r_ialdN dX5_lookerOf_61 rfl (by omega) (Nat.le_of_ble_eq_true rfl) ?_
      exact r_iret dX5_lookerOf_62 rfl (Nat.le_of_ble_eq_true rfl) (Nat.le_of_ble_eq_true rfl) (h05 0 (by decide) rfl)
    · refine r_aload_n dX5_lookerOf_0 rfl ?_
      refine r_iload_n dX5_lookerOf_1 rfl ?_
      refine r_callV (as := [_]) okX5_isLooker bX5 rfl rfl q1668 dX5_lookerOf_2 (Nat.le_of_ble_eq_true rfl) rfl (Nat.le_of_ble_eq_true rfl) (Nat.le_of_ble_eq_true rfl) (Nat.le_of_ble_eq_true rfl) (pX5_isLooker ?_)
      refine r_if_ne 15 dX5_lookerOf_5 (by decide) (fun _ => ?_) (fun c_ => absurd c_ (hbr))
      refine r_iload_n dX5_lookerOf_15 rfl ?_
      refine r_tableIn 63 dX5_lookerOf_16 (by decide) (by decide) rfl (by decide) ?_
      refine r_aload_n dX5_lookerOf_63 rfl ?_
      refine r_get bX5 3 (by decide) q1526 dX5_lookerOf_64 rfl rfl ?_
      refine r_iload_n dX5_lookerOf_67 rfl ?_
      refine r_ialdN dX5_lookerOf_68 rfl (by omega) (Nat.le_of_ble_eq_true rfl) ?_
      exact r_iret dX5_lookerOf_69 rfl (Nat.le_of_ble_eq_true rfl) (Nat.le_of_ble_eq_true rfl) (h05 1 (by decide) rfl)
    · refine r_aload_n dX5_lookerOf_0 rfl ?_
      refine r_iload_n dX5_lookerOf_1 rfl ?_
      refine r_callV (as := [_]) okX5_isLooker bX5 rfl rfl q1668 dX5_lookerOf_2 (Nat.le_of_ble_eq_true rfl) rfl (Nat.le_of_ble_eq_true rfl) (Nat.le_of_ble_eq_true rfl) (Nat.le_of_ble_eq_true rfl) (pX5_isLooker ?_)
      refine r_if_ne 15 dX5_lookerOf_5 (by decide) (fun _ => ?_) (fun c_ => absurd c_ (hbr))
      refine r_iload_n dX5_lookerOf_15 rfl ?_
      refine r_tableIn 70 dX5_lookerOf_16 (by decide) (by decide) rfl (by decide) ?_
      refine r_aload_n dX5_lookerOf_70 rfl ?_
      refine r_get bX5 4 (by decide) q1527 dX5_lookerOf_71 rfl rfl ?_
      refine r_iload_n dX5_lookerOf_74 rfl ?_
      refine r_ialdN dX5_lookerOf_75 rfl (by omega) (Nat.le_of_ble_eq_true rfl) ?_
      exact r_iret dX5_lookerOf_76 rfl (Nat.le_of_ble_eq_true rfl) (Nat.le_of_ble_eq_true rfl) (h05 2 (by decide) rfl)
    · refine r_aload_n dX5_lookerOf_0 rfl ?_
      refine r_iload_n dX5_lookerOf_1 rfl ?_
      refine r_callV (as := [_]) okX5_isLooker bX5 rfl rfl q1668 dX5_lookerOf_2 (Nat.le_of_ble_eq_true rfl) rfl (Nat.le_of_ble_eq_true rfl) (Nat.le_of_ble_eq_true rfl) (Nat.le_of_ble_eq_true rfl) (pX5_isLooker ?_)
      refine r_if_ne 15 dX5_lookerOf_5 (by decide) (fun _ => ?_) (fun c_ => absurd c_ (hbr))
      refine r_iload_n dX5_lookerOf_15 rfl ?_
      refine r_tableIn 77 dX5_lookerOf_16 (by decide) (by decide) rfl (by decide) ?_
      refine r_aload_n dX5_lookerOf_77 rfl ?_
      refine r_get bX5 5 (by decide) q1528 dX5_lookerOf_78 rfl rfl ?_
      refine r_iload_n dX5_lookerOf_81 rfl ?_
      refine r_ialdN dX5_lookerOf_82 rfl (by omega) (Nat.le_of_ble_eq_true rfl) ?_
      exact r_iret dX5_lookerOf_83 rfl (Nat.le_of_ble_eq_true rfl) (Nat.le_of_ble_eq_true rfl) (h05 3 (by decide) rfl)
    · refine r_aload_n dX5_lookerOf_0 rfl ?_
      refine r_iload_n dX5_lookerOf_1 rfl ?_
      refine r_callV (as := [_]) okX5_isLooker bX5 rfl rfl q1668 dX5_lookerOf_2 (Nat.le_of_ble_eq_true rfl) rfl (Nat.le_of_ble_eq_true rfl) (Nat.le_of_ble_eq_true rfl) (Nat.le_of_ble_eq_true rfl) (pX5_isLooker ?_)
      refine r_if_ne 15 dX5_lookerOf_5 (by decide) (fun _ => ?_) (fun c_ => absurd c_ (hbr))
      refine r_iload_n dX5_lookerOf_15 rfl ?_
      refine r_tableIn 84 dX5_lookerOf_16 (by decide) (by decide) rfl (by decide) ?_
      refine r_aload_n dX5_lookerOf_84 rfl ?_
      refine r_get bX5 6 (by decide) q1529 dX5_lookerOf_85 rfl rfl ?_
      refine r_iload_n dX5_lookerOf_88 rfl ?_
      refine r_ialdN dX5_lookerOf_89 rfl (by omega) (Nat.le_of_ble_eq_true rfl) ?_
      exact r_iret dX5_lookerOf_90 rfl (Nat.le_of_ble_eq_true rfl) (Nat.le_of_ble_eq_true rfl) (h05 4 (by decide) rfl)
    · refine r_aload_n dX5_lookerOf_0 rfl ?_
      refine r_iload_n dX5_lookerOf_1 rfl ?_
      refine r_callV (as := [_]) okX5_isLooker bX5 rfl rfl q1668 dX5_lookerOf_2 (Nat.le_of_ble_eq_true rfl) rfl (Nat.le_of_ble_eq_true rfl) (Nat.le_of_ble_eq_true rfl) (Nat.le_of_ble_eq_true rfl) (pX5_isLooker ?_)
      refine r_if_ne 15 dX5_lookerOf_5 (by decide) (fun _ => ?_) (fun c_ => absurd c_ (hbr))
      refine r_iload_n dX5_lookerOf_15 rfl ?_
      refine r_tableIn 91 dX5_lookerOf_16 (by decide) (by decide) rfl (by decide) ?_
      refine r_aload_n dX5_lookerOf_91 rfl ?_
      refine r_get bX5 7 (by decide) q1530 dX5_lookerOf_92 rfl rfl ?_
      refine r_iload_n dX5_lookerOf_95 rfl ?_
      refine r_ialdN dX5_lookerOf_96 rfl (by omega) (Nat.le_of_ble_eq_true rfl) ?_
      exact r_iret dX5_lookerOf_97 rfl (Nat.le_of_ble_eq_true rfl) (Nat.le_of_ble_eq_true rfl) (h05 5 (by decide) rfl)
  | false =>
    have hout : w.toInt < 0 ∨ 5 < w.toInt := by
      simp only [inB, Bool.and_eq_false_iff, decide_eq_false_iff_not, Int32.le_iff_toInt_le] at hb
      have e0 : (0 : Int32).toInt = 0 := by decide
      have e5 : (5 : Int32).toInt = 5 := by decide
      omega
    have he : inB w 10 17 = inB (w - 10) 0 7 := by
      have e10 : (10 : Int32).toInt = 10 := by decide
      have e17 : (17 : Int32).toInt = 17 := by decide
      have e7 : (7 : Int32).toInt = 7 := by decide
      have e0 : (0 : Int32).toInt = 0 := by decide
      have hs := Int32.toInt_sub w 10
      have h1 := Int32.toInt_lt w
      have h2 := Int32.le_toInt w
      rw [e10] at hs
      rw [Bool.eq_iff_iff]
      simp only [inB, Bool.and_eq_true, decide_eq_true_eq, Int32.le_iff_toInt_le, e10, e17, e7, e0, hs, Int.bmod]
      omega
    refine r_aload_n dX5_lookerOf_0 rfl ?_
    refine r_iload_n dX5_lookerOf_1 rfl ?_
    refine r_callV (as := [_]) okX5_isLooker bX5 rfl rfl q1668 dX5_lookerOf_2 (Nat.le_of_ble_eq_true rfl) rfl (Nat.le_of_ble_eq_true rfl) (Nat.le_of_ble_eq_true rfl) (Nat.le_of_ble_eq_true rfl) (pX5_isLooker ?_)
    refine r_if_ne 15 dX5_lookerOf_5 (by decide) (fun _ => ?_) (fun c_ => absurd c_ (hbr))
    refine r_iload_n dX5_lookerOf_15 rfl ?_
    refine r_tableOut 98 dX5_lookerOf_16 hout (by decide) ?_
    refine r_iload_n dX5_lookerOf_98 rfl ?_
    refine r_bipush 10 dX5_lookerOf_99 (by decide) ?_
    refine r_bipush 17 dX5_lookerOf_101 (by decide) ?_
    refine r_callS (as := [_, _, _]) okX5_within q1630 dX5_lookerOf_103 (Nat.le_of_ble_eq_true rfl) rfl (Nat.le_of_ble_eq_true rfl) (Nat.le_of_ble_eq_true rfl) (Nat.le_of_ble_eq_true rfl) (pX5_within ?_)
    refine r_if_eq 126 dX5_lookerOf_106 (by decide) (fun c_106 => ?_) (fun c_106 => ?_)
    · refine r_aload_n dX5_lookerOf_126 rfl ?_
      refine r_bipush (-2) dX5_lookerOf_127 (by decide) ?_
      refine r_callV (as := [_]) okX5_no bX5 rfl rfl q1633 dX5_lookerOf_129 (Nat.le_of_ble_eq_true rfl) rfl (Nat.le_of_ble_eq_true rfl) (Nat.le_of_ble_eq_true rfl) (Nat.le_of_ble_eq_true rfl) (pX5_no 2 (by decide) (by decide) ?_)
      exact r_iret dX5_lookerOf_132 rfl (Nat.le_of_ble_eq_true rfl) (Nat.le_of_ble_eq_true rfl) (hbad hb (by rw [← he]; exact b2i_0.mp c_106))
    · have g := b2i_n.mp c_106
      rw [he] at g
      obtain ⟨z, hz, e⟩ := inB_ex 7 (by decide) g
      have ew : w = nI (10 + z) := by
        have : w = nI z + 10 := by rw [← e]; simp
        rw [this, show (10 : Int32) = nI 10 from rfl, nI_add, Nat.add_comm]
      subst ew
      refine r_aload_n dX5_lookerOf_109 rfl ?_
      refine r_get bX5 8 (by decide) q1531 dX5_lookerOf_110 rfl rfl ?_
      refine r_bipush 8 dX5_lookerOf_113 (by decide) ?_
      refine r_iload_n dX5_lookerOf_115 rfl ?_
      refine r_imul dX5_lookerOf_116 ?_
      rw [show (8 : Int32) * nI j = nI (8 * j) from pk_mul 8 j]
      refine r_iload_n dX5_lookerOf_117 rfl ?_
      refine r_iadd dX5_lookerOf_118 ?_
      refine r_bipush 10 dX5_lookerOf_119 (by decide) ?_
      refine r_isub dX5_lookerOf_121 ?_
      rw [nI_add, show (10 : Int32) = nI 10 from rfl, pk_sub (by omega), show 8 * j + (10 + z) - 10 = 8 * j + z by omega]
      refine r_ialdN dX5_lookerOf_122 rfl (by omega) (Nat.le_of_ble_eq_true rfl) ?_
      refine r_goto 132 dX5_lookerOf_123 (by decide) ?_
      exact r_iret dX5_lookerOf_132 rfl (Nat.le_of_ble_eq_true rfl) (Nat.le_of_ble_eq_true rfl) (hh z (by omega) rfl)
theorem pX5_copy_bad {p q i j n : Int32} (hb : (inB p 0 7 && inB q 0 7) = false) (hQ : Q (some (.int (-2))) ((mC th kd ow ag lk co sh hs tp hd rl ro (upd rf 2 (rf 2 + 1)) ol ah tr od tk fo wi ou ge mo my ev se td fr to tn va im lo), r)) : AMet mX5_copy 3 0 0 [.ref 0, .int p, .int q, .int i, .int j, .int n] ((mC th kd ow ag lk co sh hs tp hd rl ro rf ol ah tr od tk fo wi ou ge mo my ev se td fr to tn va im lo), r) Q := by
  refine AMet.ofRch rfl rfl (Nat.le_of_ble_eq_true rfl) ?_
  refine r_iload_n dX5_copy_0 rfl ?_
  refine r_callS (as := [_]) okX5_isShelf q1627 dX5_copy_1 (Nat.le_of_ble_eq_true rfl) rfl (Nat.le_of_ble_eq_true rfl) (Nat.le_of_ble_eq_true rfl) (Nat.le_of_ble_eq_true rfl) (pX5_isShelf ?_)
  refine r_if_eq 14 dX5_copy_4 (by decide) (fun c_4 => ?_) (fun c_4 => ?_)
  · refine r_aload_n dX5_copy_14 rfl ?_
    refine r_bipush (-2) dX5_copy_15 (by decide) ?_
    refine r_callV (as := [_]) okX5_no bX5 rfl rfl q1633 dX5_copy_17 (Nat.le_of_ble_eq_true rfl) rfl (Nat.le_of_ble_eq_true rfl) (Nat.le_of_ble_eq_true rfl) (Nat.le_of_ble_eq_true rfl) (pX5_no 2 (by decide) (by decide) ?_)
    exact r_iret dX5_copy_20 rfl (Nat.le_of_ble_eq_true rfl) (Nat.le_of_ble_eq_true rfl) (hQ)
  · refine r_iload_n dX5_copy_7 rfl ?_
    refine r_callS (as := [_]) okX5_isShelf q1627 dX5_copy_8 (Nat.le_of_ble_eq_true rfl) rfl (Nat.le_of_ble_eq_true rfl) (Nat.le_of_ble_eq_true rfl) (Nat.le_of_ble_eq_true rfl) (pX5_isShelf ?_)
    refine r_if_ne 21 dX5_copy_11 (by decide) (fun c_11 => ?_) (fun c_11 => ?_)
    · exact absurd hb (by simp_all [b2i_0])
    · refine r_aload_n dX5_copy_14 rfl ?_
      refine r_bipush (-2) dX5_copy_15 (by decide) ?_
      refine r_callV (as := [_]) okX5_no bX5 rfl rfl q1633 dX5_copy_17 (Nat.le_of_ble_eq_true rfl) rfl (Nat.le_of_ble_eq_true rfl) (Nat.le_of_ble_eq_true rfl) (Nat.le_of_ble_eq_true rfl) (pX5_no 2 (by decide) (by decide) ?_)
      exact r_iret dX5_copy_20 rfl (Nat.le_of_ble_eq_true rfl) (Nat.le_of_ble_eq_true rfl) (hQ)
theorem pX5_copy_oth {p q : Nat} {i j n : Int32} (hp : p < 8) (hq : q < 8) (hh : 10 ≤ hd p ∨ 10 ≤ hd q ∨ (inB (hd p) 0 4 = true ∧ inB (hd q) 0 4 = true ∧ hd p ≠ hd q)) (hQ : Q (some (.int (-3))) ((mC th kd ow ag lk co sh hs tp hd rl ro (upd rf 3 (rf 3 + 1)) ol ah tr od tk fo wi ou ge mo my ev se td fr to tn va im lo), r)) : AMet mX5_copy 3 0 0 [.ref 0, .int (nI p), .int (nI q), .int i, .int j, .int n] ((mC th kd ow ag lk co sh hs tp hd rl ro rf ol ah tr od tk fo wi ou ge mo my ev se td fr to tn va im lo), r) Q := by
  refine AMet.ofRch rfl rfl (Nat.le_of_ble_eq_true rfl) ?_
  refine r_iload_n dX5_copy_0 rfl ?_
  refine r_callS (as := [_]) okX5_isShelf q1627 dX5_copy_1 (Nat.le_of_ble_eq_true rfl) rfl (Nat.le_of_ble_eq_true rfl) (Nat.le_of_ble_eq_true rfl) (Nat.le_of_ble_eq_true rfl) (pX5_isShelf ?_)
  refine r_if_eq 14 dX5_copy_4 (by decide) (fun c_ => absurd c_ (b2i_n.mpr (inB_nI (N := 7) (by omega) (by decide)))) (fun _ => ?_)
  refine r_iload_n dX5_copy_7 rfl ?_
  refine r_callS (as := [_]) okX5_isShelf q1627 dX5_copy_8 (Nat.le_of_ble_eq_true rfl) rfl (Nat.le_of_ble_eq_true rfl) (Nat.le_of_ble_eq_true rfl) (Nat.le_of_ble_eq_true rfl) (pX5_isShelf ?_)
  refine r_if_ne 21 dX5_copy_11 (by decide) (fun _ => ?_) (fun c_ => absurd c_ (b2i_n.mpr (inB_nI (N := 7) (by omega) (by decide))))
  refine r_aload_n dX5_copy_21 rfl ?_
  refine r_get bX5 17 (by decide) q1540 dX5_copy_22 rfl rfl ?_
  refine r_iload_n dX5_copy_25 rfl ?_
  refine r_ialdN dX5_copy_26 rfl (by omega) (Nat.le_of_ble_eq_true rfl) ?_
  refine r_bipush 10 dX5_copy_27 (by decide) ?_
  refine r_icmp_ge 74 dX5_copy_29 (by decide) (fun c_29 => ?_) (fun c_29 => ?_)
  · refine r_aload_n dX5_copy_74 rfl ?_
    refine r_bipush (-3) dX5_copy_75 (by decide) ?_
    refine r_callV (as := [_]) okX5_no bX5 rfl rfl q1633 dX5_copy_77 (Nat.le_of_ble_eq_true rfl) rfl (Nat.le_of_ble_eq_true rfl) (Nat.le_of_ble_eq_true rfl) (Nat.le_of_ble_eq_true rfl) (pX5_no 3 (by decide) (by decide) ?_)
    exact r_iret dX5_copy_80 rfl (Nat.le_of_ble_eq_true rfl) (Nat.le_of_ble_eq_true rfl) (hQ)
  · refine r_aload_n dX5_copy_32 rfl ?_
    refine r_get bX5 17 (by decide) q1540 dX5_copy_33 rfl rfl ?_
    refine r_iload_n dX5_copy_36 rfl ?_
    refine r_ialdN dX5_copy_37 rfl (by omega) (Nat.le_of_ble_eq_true rfl) ?_
    refine r_bipush 10 dX5_copy_38 (by decide) ?_
    refine r_icmp_ge 74 dX5_copy_40 (by decide) (fun c_40 => ?_) (fun c_40 => ?_)
    · refine r_aload_n dX5_copy_74 rfl ?_
      refine r_bipush (-3) dX5_copy_75 (by decide) ?_
      refine r_callV (as := [_]) okX5_no bX5 rfl rfl q1633 dX5_copy_77 (Nat.le_of_ble_eq_true rfl) rfl (Nat.le_of_ble_eq_true rfl) (Nat.le_of_ble_eq_true rfl) (Nat.le_of_ble_eq_true rfl) (pX5_no 3 (by decide) (by decide) ?_)
      exact r_iret dX5_copy_80 rfl (Nat.le_of_ble_eq_true rfl) (Nat.le_of_ble_eq_true rfl) (hQ)
    · refine r_aload_n dX5_copy_43 rfl ?_
      refine r_iload_n dX5_copy_44 rfl ?_
      refine r_callV (as := [_]) okX5_isRow bX5 rfl rfl q1641 dX5_copy_45 (Nat.le_of_ble_eq_true rfl) rfl (Nat.le_of_ble_eq_true rfl) (Nat.le_of_ble_eq_true rfl) (Nat.le_of_ble_eq_true rfl) (pX5_isRow (by omega) ?_)
      refine r_if_eq 81 dX5_copy_48 (by decide) (fun c_48 => ?_) (fun c_48 => ?_)
      · exfalso
        rcases hh with h | h | ⟨h1, h2, h3⟩
        · exact c_29 h
        · exact c_40 h
        · first | exact h3 c_71 | (rw [b2i_0] at c_48; rw [h1] at c_48; exact absurd c_48 (by decide)) | (rw [b2i_0] at c_56; rw [h2] at c_56; exact absurd c_56 (by decide))
      · refine r_aload_n dX5_copy_51 rfl ?_
        refine r_iload_n dX5_copy_52 rfl ?_
        refine r_callV (as := [_]) okX5_isRow bX5 rfl rfl q1641 dX5_copy_53 (Nat.le_of_ble_eq_true rfl) rfl (Nat.le_of_ble_eq_true rfl) (Nat.le_of_ble_eq_true rfl) (Nat.le_of_ble_eq_true rfl) (pX5_isRow (by omega) ?_)
        refine r_if_eq 81 dX5_copy_56 (by decide) (fun c_56 => ?_) (fun c_56 => ?_)
        · exfalso
          rcases hh with h | h | ⟨h1, h2, h3⟩
          · exact c_29 h
          · exact c_40 h
          · first | exact h3 c_71 | (rw [b2i_0] at c_48; rw [h1] at c_48; exact absurd c_48 (by decide)) | (rw [b2i_0] at c_56; rw [h2] at c_56; exact absurd c_56 (by decide))
        · refine r_aload_n dX5_copy_59 rfl ?_
          refine r_get bX5 17 (by decide) q1540 dX5_copy_60 rfl rfl ?_
          refine r_iload_n dX5_copy_63 rfl ?_
          refine r_ialdN dX5_copy_64 rfl (by omega) (Nat.le_of_ble_eq_true rfl) ?_
          refine r_aload_n dX5_copy_65 rfl ?_
          refine r_get bX5 17 (by decide) q1540 dX5_copy_66 rfl rfl ?_
          refine r_iload_n dX5_copy_69 rfl ?_
          refine r_ialdN dX5_copy_70 rfl (by omega) (Nat.le_of_ble_eq_true rfl) ?_
          refine r_icmp_eq 81 dX5_copy_71 (by decide) (fun c_71 => ?_) (fun c_71 => ?_)
          · exfalso
            rcases hh with h | h | ⟨h1, h2, h3⟩
            · exact c_29 h
            · exact c_40 h
            · first | exact h3 c_71 | (rw [b2i_0] at c_48; rw [h1] at c_48; exact absurd c_48 (by decide)) | (rw [b2i_0] at c_56; rw [h2] at c_56; exact absurd c_56 (by decide))
          · refine r_aload_n dX5_copy_74 rfl ?_
            refine r_bipush (-3) dX5_copy_75 (by decide) ?_
            refine r_callV (as := [_]) okX5_no bX5 rfl rfl q1633 dX5_copy_77 (Nat.le_of_ble_eq_true rfl) rfl (Nat.le_of_ble_eq_true rfl) (Nat.le_of_ble_eq_true rfl) (Nat.le_of_ble_eq_true rfl) (pX5_no 3 (by decide) (by decide) ?_)
            exact r_iret dX5_copy_80 rfl (Nat.le_of_ble_eq_true rfl) (Nat.le_of_ble_eq_true rfl) (hQ)
theorem pX5_copy_none {p q : Nat} {i j n : Int32} (hp : p < 8) (hq : q < 8) (h1 : ¬ 10 ≤ hd p) (h2 : ¬ 10 ≤ hd q) (hh : hd p = -1 ∨ hd q = -1) (hQ : Q (some (.int (-4))) ((mC th kd ow ag lk co sh hs tp hd rl ro (upd rf 4 (rf 4 + 1)) ol ah tr od tk fo wi ou ge mo my ev se td fr to tn va im lo), r)) : AMet mX5_copy 3 0 0 [.ref 0, .int (nI p), .int (nI q), .int i, .int j, .int n] ((mC th kd ow ag lk co sh hs tp hd rl ro rf ol ah tr od tk fo wi ou ge mo my ev se td fr to tn va im lo), r) Q := by
  refine AMet.ofRch rfl rfl (Nat.le_of_ble_eq_true rfl) ?_
  have hgo : Rch (mX5_copy, 3, 0, 0, oQ Q) 0 0 81 [some (.ref 0), some (.int (nI p)), some (.int (nI q)), some (.int i), some (.int j), some (.int n), none] [] ((mC th kd ow ag lk co sh hs tp hd rl ro rf ol ah tr od tk fo wi ou ge mo my ev se td fr to tn va im lo), r) := by
    refine r_aload_n dX5_copy_81 rfl ?_
    refine r_get bX5 17 (by decide) q1540 dX5_copy_82 rfl rfl ?_
    refine r_iload_n dX5_copy_85 rfl ?_
    refine r_ialdN dX5_copy_86 rfl (by omega) (Nat.le_of_ble_eq_true rfl) ?_
    refine r_if_lt 99 dX5_copy_87 (by decide) (fun c_87 => ?_) (fun c_87 => ?_)
    · refine r_aload_n dX5_copy_99 rfl ?_
      refine r_bipush (-4) dX5_copy_100 (by decide) ?_
      refine r_callV (as := [_]) okX5_no bX5 rfl rfl q1633 dX5_copy_102 (Nat.le_of_ble_eq_true rfl) rfl (Nat.le_of_ble_eq_true rfl) (Nat.le_of_ble_eq_true rfl) (Nat.le_of_ble_eq_true rfl) (pX5_no 4 (by decide) (by decide) ?_)
      exact r_iret dX5_copy_105 rfl (Nat.le_of_ble_eq_true rfl) (Nat.le_of_ble_eq_true rfl) (hQ)
    · refine r_aload_n dX5_copy_90 rfl ?_
      refine r_get bX5 17 (by decide) q1540 dX5_copy_91 rfl rfl ?_
      refine r_iload_n dX5_copy_94 rfl ?_
      refine r_ialdN dX5_copy_95 rfl (by omega) (Nat.le_of_ble_eq_true rfl) ?_
      refine r_if_ge 106 dX5_copy_96 (by decide) (fun c_96 => ?_) (fun c_96 => ?_)
      · exfalso
        rcases hh with h | h
        · rw [h] at c_87; exact c_87 (by decide)
        · rw [h] at c_96; exact absurd c_96 (by decide)
      · refine r_aload_n dX5_copy_99 rfl ?_
        refine r_bipush (-4) dX5_copy_100 (by decide) ?_
        refine r_callV (as := [_]) okX5_no bX5 rfl rfl q1633 dX5_copy_102 (Nat.le_of_ble_eq_true rfl) rfl (Nat.le_of_ble_eq_true rfl) (Nat.le_of_ble_eq_true rfl) (Nat.le_of_ble_eq_true rfl) (pX5_no 4 (by decide) (by decide) ?_)
        exact r_iret dX5_copy_105 rfl (Nat.le_of_ble_eq_true rfl) (Nat.le_of_ble_eq_true rfl) (hQ)
  refine r_iload_n dX5_copy_0 rfl ?_
  refine r_callS (as := [_]) okX5_isShelf q1627 dX5_copy_1 (Nat.le_of_ble_eq_true rfl) rfl (Nat.le_of_ble_eq_true rfl) (Nat.le_of_ble_eq_true rfl) (Nat.le_of_ble_eq_true rfl) (pX5_isShelf ?_)
  refine r_if_eq 14 dX5_copy_4 (by decide) (fun c_ => absurd c_ (b2i_n.mpr (inB_nI (N := 7) (by omega) (by decide)))) (fun _ => ?_)
  refine r_iload_n dX5_copy_7 rfl ?_
  refine r_callS (as := [_]) okX5_isShelf q1627 dX5_copy_8 (Nat.le_of_ble_eq_true rfl) rfl (Nat.le_of_ble_eq_true rfl) (Nat.le_of_ble_eq_true rfl) (Nat.le_of_ble_eq_true rfl) (pX5_isShelf ?_)
  refine r_if_ne 21 dX5_copy_11 (by decide) (fun _ => ?_) (fun c_ => absurd c_ (b2i_n.mpr (inB_nI (N := 7) (by omega) (by decide))))
  refine r_aload_n dX5_copy_21 rfl ?_
  refine r_get bX5 17 (by decide) q1540 dX5_copy_22 rfl rfl ?_
  refine r_iload_n dX5_copy_25 rfl ?_
  refine r_ialdN dX5_copy_26 rfl (by omega) (Nat.le_of_ble_eq_true rfl) ?_
  refine r_bipush 10 dX5_copy_27 (by decide) ?_
  refine r_icmp_ge 74 dX5_copy_29 (by decide) (fun c_ => absurd c_ (h1)) (fun _ => ?_)
  refine r_aload_n dX5_copy_32 rfl ?_
  refine r_get bX5 17 (by decide) q1540 dX5_copy_33 rfl rfl ?_
  refine r_iload_n dX5_copy_36 rfl ?_
  refine r_ialdN dX5_copy_37 rfl (by omega) (Nat.le_of_ble_eq_true rfl) ?_
  refine r_bipush 10 dX5_copy_38 (by decide) ?_
  refine r_icmp_ge 74 dX5_copy_40 (by decide) (fun c_ => absurd c_ (h2)) (fun _ => ?_)
  refine r_aload_n dX5_copy_43 rfl ?_
  refine r_iload_n dX5_copy_44 rfl ?_
  refine r_callV (as := [_]) okX5_isRow bX5 rfl rfl q1641 dX5_copy_45 (Nat.le_of_ble_eq_true rfl) rfl (Nat.le_of_ble_eq_true rfl) (Nat.le_of_ble_eq_true rfl) (Nat.le_of_ble_eq_true rfl) (pX5_isRow (by omega) ?_)
  refine r_if_eq 81 dX5_copy_48 (by decide) (fun c_48 => ?_) (fun c_48 => ?_)
  · exact hgo
  · refine r_aload_n dX5_copy_51 rfl ?_
    refine r_iload_n dX5_copy_52 rfl ?_
    refine r_callV (as := [_]) okX5_isRow bX5 rfl rfl q1641 dX5_copy_53 (Nat.le_of_ble_eq_true rfl) rfl (Nat.le_of_ble_eq_true rfl) (Nat.le_of_ble_eq_true rfl) (Nat.le_of_ble_eq_true rfl) (pX5_isRow (by omega) ?_)
    refine r_if_eq 81 dX5_copy_56 (by decide) (fun c_56 => ?_) (fun c_56 => ?_)
    · exact hgo
    · exfalso
      rcases hh with h | h
      · rw [b2i_n, h, inB_neg] at c_48; exact absurd c_48 (by decide)
      · rw [b2i_n, h, inB_neg] at c_56; exact absurd c_56 (by decide)
theorem pX5_copy_row {p q k a b : Nat} {i j n : Int32} (hp : p < 8) (hq : q < 8) (hk : k < 5) (h1 : hd p = nI k) (h2 : hd q = nI k) (ha : a ≤ 40) (hb : b ≤ 40) (l1 : rl p = nI a) (l2 : rl q = nI b) (hpq : p = q → a = b) (hbad : (∀ I J N : Nat, i = nI I → j = nI J → n = nI N → I + N ≤ a → ¬ J + N ≤ b) → Q (some (.int (-2))) ((mC th kd ow ag lk co sh hs tp hd rl ro (upd rf 2 (rf 2 + 1)) ol ah tr od tk fo wi ou ge mo my ev se td fr to tn va im lo), r)) (hok : ∀ I J N : Nat, i = nI I → j = nI J → n = nI N → I + N ≤ a → J + N ≤ b → Q (some (.int (nI N))) ((mC th kd ow ag lk co sh hs tp hd rl (cpR ro (40 * p + I) (40 * q + J) 0 N) rf ol ah tr od tk fo wi ou ge mo my ev se td fr to tn va im lo), r)) : AMet mX5_copy 3 0 0 [.ref 0, .int (nI p), .int (nI q), .int i, .int j, .int n] ((mC th kd ow ag lk co sh hs tp hd rl ro rf ol ah tr od tk fo wi ou ge mo my ev se td fr to tn va im lo), r) Q := by
  refine AMet.ofRch rfl rfl (Nat.le_of_ble_eq_true rfl) ?_
  have hbd : (∀ I J N : Nat, I < 2 ^ 31 → J < 2 ^ 31 → N < 2 ^ 31 → i = nI I → j = nI J → n = nI N → I + N ≤ a → ¬ J + N ≤ b) → Rch (mX5_copy, 3, 0, 0, oQ Q) 0 0 155 [some (.ref 0), some (.int (nI p)), some (.int (nI q)), some (.int i), some (.int j), some (.int n), none] [] ((mC th kd ow ag lk co sh hs tp hd rl ro rf ol ah tr od tk fo wi ou ge mo my ev se td fr to tn va im lo), r) := by
    intro g
    have g2 := hbad (fun I J N e1 e2 e3 hI => by
      intro hJ
      exact g I J N (by omega) (by omega) (by omega) e1 e2 e3 hI hJ)
    refine r_aload_n dX5_copy_155 rfl ?_
    refine r_bipush (-2) dX5_copy_156 (by decide) ?_
    refine r_callV (as := [_]) okX5_no bX5 rfl rfl q1633 dX5_copy_158 (Nat.le_of_ble_eq_true rfl) rfl (Nat.le_of_ble_eq_true rfl) (Nat.le_of_ble_eq_true rfl) (Nat.le_of_ble_eq_true rfl) (pX5_no 2 (by decide) (by decide) ?_)
    exact r_iret dX5_copy_161 rfl (Nat.le_of_ble_eq_true rfl) (Nat.le_of_ble_eq_true rfl) (g2)
  have hgo : ∀ I J N : Nat, i = nI I → j = nI J → n = nI N → I + N ≤ a → J + N ≤ b → Rch (mX5_copy, 3, 0, 0, oQ Q) 0 0 162 [some (.ref 0), some (.int (nI p)), some (.int (nI q)), some (.int i), some (.int j), some (.int n), none] [] ((mC th kd ow ag lk co sh hs tp hd rl ro rf ol ah tr od tk fo wi ou ge mo my ev se td fr to tn va im lo), r) := by
    intro I J N e1 e2 e3 hI hJ
    have hfin := hok I J N e1 e2 e3 hI hJ
    subst e1 e2 e3
    have hret : ∀ x : Option Value, Rch (mX5_copy, 3, 0, 0, oQ Q) 0 0 267 [some (.ref 0), some (.int (nI p)), some (.int (nI q)), some (.int (nI I)), some (.int (nI J)), some (.int (nI N)), x] [] ((mC th kd ow ag lk co sh hs tp hd rl (cpR ro (40 * p + I) (40 * q + J) 0 N) rf ol ah tr od tk fo wi ou ge mo my ev se td fr to tn va im lo), r) := by
      intro x
      refine r_iload dX5_copy_267 rfl ?_
      exact r_iret dX5_copy_269 rfl (Nat.le_of_ble_eq_true rfl) (Nat.le_of_ble_eq_true rfl) (hfin)
    have hfwd : ¬ (p = q ∧ I < J) → Rch (mX5_copy, 3, 0, 0, oQ Q) 0 0 222 [some (.ref 0), some (.int (nI p)), some (.int (nI q)), some (.int (nI I)), some (.int (nI J)), some (.int (nI N)), none] [] ((mC th kd ow ag lk co sh hs tp hd rl ro rf ol ah tr od tk fo wi ou ge mo my ev se td fr to tn va im lo), r) := by
      intro g
      refine r_iconst 0 dX5_copy_222 (by decide) ?_
      refine r_istore dX5_copy_223 (Nat.le_of_ble_eq_true rfl) ?_
      refine eqP (P := fun z => Rch (mX5_copy, 3, 0, 0, oQ Q) 0 0 225 [some (.ref 0), some (.int (nI p)), some (.int (nI q)), some (.int (nI I)), some (.int (nI J)), some (.int (nI N)), some (.int (nI 0))] [] ((mC th kd ow ag lk co sh hs tp hd rl (z) rf ol ah tr od tk fo wi ou ge mo my ev se td fr to tn va im lo), r)) (cpR_0 ro (40 * p + I) (40 * q + J) 0) ?_
      refine loopUp (N := N) (P := fun k => Rch (mX5_copy, 3, 0, 0, oQ Q) 0 0 225 [some (.ref 0), some (.int (nI p)), some (.int (nI q)), some (.int (nI I)), some (.int (nI J)), some (.int (nI N)), some (.int (nI k))] [] ((mC th kd ow ag lk co sh hs tp hd rl (cpR ro (40 * p + I) (40 * q + J) 0 k) rf ol ah tr od tk fo wi ou ge mo my ev se td fr to tn va im lo), r)) ?_ ?_
      · refine r_iload dX5_copy_225 rfl ?_
        refine r_iload dX5_copy_227 rfl ?_
        refine r_icmp_ge 267 dX5_copy_229 (by decide) (fun _ => ?_) (fun c_ => absurd (Int32.le_refl _) c_)
        exact hret _
      · intro k hk2 ih
        rw [← cpR_up (by omega)] at ih
        refine r_iload dX5_copy_225 rfl ?_
        refine r_iload dX5_copy_227 rfl ?_
        refine r_icmp_ge 267 dX5_copy_229 (by decide) (fun c_ => absurd c_ (geF hk2 (by omega))) (fun _ => ?_)
        refine r_aload_n dX5_copy_232 rfl ?_
        refine r_get bX5 19 (by decide) q1542 dX5_copy_233 rfl rfl ?_
        refine r_bipush 40 dX5_copy_236 (by decide) ?_
        refine r_iload_n dX5_copy_238 rfl ?_
        refine r_imul dX5_copy_239 ?_
        refine r_iload dX5_copy_240 rfl ?_
        refine r_iadd dX5_copy_242 ?_
        refine r_iload dX5_copy_243 rfl ?_
        refine r_iadd dX5_copy_245 ?_
        rw [mul40]
        refine r_aload_n dX5_copy_246 rfl ?_
        refine r_get bX5 19 (by decide) q1542 dX5_copy_247 rfl rfl ?_
        refine r_bipush 40 dX5_copy_250 (by decide) ?_
        refine r_iload_n dX5_copy_252 rfl ?_
        refine r_imul dX5_copy_253 ?_
        refine r_iload_n dX5_copy_254 rfl ?_
        refine r_iadd dX5_copy_255 ?_
        refine r_iload dX5_copy_256 rfl ?_
        refine r_iadd dX5_copy_258 ?_
        rw [mul40]
        refine r_laldN dX5_copy_259 rfl (by omega) (Nat.le_of_ble_eq_true rfl) ?_
        refine r_lastN dX5_copy_260 rfl (by omega) (Nat.le_of_ble_eq_true rfl) ?_
        refine r_iincV dX5_copy_261 rfl (Nat.le_of_ble_eq_true rfl) (incN _) ?_
        refine r_goto 225 dX5_copy_264 (by decide) ?_
        exact ih
    have hbwd : p = q → I < J → Rch (mX5_copy, 3, 0, 0, oQ Q) 0 0 173 [some (.ref 0), some (.int (nI p)), some (.int (nI q)), some (.int (nI I)), some (.int (nI J)), some (.int (nI N)), none] [] ((mC th kd ow ag lk co sh hs tp hd rl ro rf ol ah tr od tk fo wi ou ge mo my ev se td fr to tn va im lo), r) := by
      intro g1 g2
      have hl : ∀ k, k ≤ N → Rch (mX5_copy, 3, 0, 0, oQ Q) 0 0 179 [some (.ref 0), some (.int (nI p)), some (.int (nI q)), some (.int (nI I)), some (.int (nI J)), some (.int (nI N)), some (.int (nI k - 1))] [] ((mC th kd ow ag lk co sh hs tp hd rl (cpR ro (40 * p + I) (40 * q + J) k N) rf ol ah tr od tk fo wi ou ge mo my ev se td fr to tn va im lo), r) := by
        intro k
        induction k with
        | zero =>
          intro _
          refine r_iload dX5_copy_179 rfl ?_
          refine r_if_lt 219 dX5_copy_181 (by decide) (fun _ => ?_) (fun c_ => absurd (by decide) c_)
          refine r_goto 267 dX5_copy_219 (by decide) ?_
          exact hret _
        | succ k ih =>
          intro hk2
          have ih := ih (by omega)
          rw [← cpR_dn (by omega) (by omega)] at ih
          rw [nI_pred]
          refine r_iload dX5_copy_179 rfl ?_
          refine r_if_lt 219 dX5_copy_181 (by decide) (fun c_ => absurd c_ (nI_pos (by omega))) (fun _ => ?_)
          refine r_aload_n dX5_copy_184 rfl ?_
          refine r_get bX5 19 (by decide) q1542 dX5_copy_185 rfl rfl ?_
          refine r_bipush 40 dX5_copy_188 (by decide) ?_
          refine r_iload_n dX5_copy_190 rfl ?_
          refine r_imul dX5_copy_191 ?_
          refine r_iload dX5_copy_192 rfl ?_
          refine r_iadd dX5_copy_194 ?_
          refine r_iload dX5_copy_195 rfl ?_
          refine r_iadd dX5_copy_197 ?_
          rw [mul40]
          refine r_aload_n dX5_copy_198 rfl ?_
          refine r_get bX5 19 (by decide) q1542 dX5_copy_199 rfl rfl ?_
          refine r_bipush 40 dX5_copy_202 (by decide) ?_
          refine r_iload_n dX5_copy_204 rfl ?_
          refine r_imul dX5_copy_205 ?_
          refine r_iload_n dX5_copy_206 rfl ?_
          refine r_iadd dX5_copy_207 ?_
          refine r_iload dX5_copy_208 rfl ?_
          refine r_iadd dX5_copy_210 ?_
          rw [mul40]
          refine r_laldN dX5_copy_211 rfl (by omega) (Nat.le_of_ble_eq_true rfl) ?_
          refine r_lastN dX5_copy_212 rfl (by omega) (Nat.le_of_ble_eq_true rfl) ?_
          refine r_iincV dX5_copy_213 rfl (Nat.le_of_ble_eq_true rfl) (decS _) ?_
          refine r_goto 179 dX5_copy_216 (by decide) ?_
          exact ih
      refine r_iload dX5_copy_173 rfl ?_
      refine r_iconst 1 dX5_copy_175 (by decide) ?_
      refine r_isub dX5_copy_176 ?_
      refine r_istore dX5_copy_177 (Nat.le_of_ble_eq_true rfl) ?_
      have := hl N (Nat.le_refl _)
      rw [cpR_0] at this
      exact this
    refine r_iload_n dX5_copy_162 rfl ?_
    refine r_iload_n dX5_copy_163 rfl ?_
    refine r_icmp_ne 222 dX5_copy_164 (by decide) (fun c_164 => ?_) (fun c_164 => ?_)
    · refine hfwd (fun z => ?_)
      first | exact c_164 (by rw [z.1]) | exact absurd c_170 (geF z.2 (by omega))
    · refine r_iload_n dX5_copy_167 rfl ?_
      refine r_iload dX5_copy_168 rfl ?_
      refine r_icmp_ge 222 dX5_copy_170 (by decide) (fun c_170 => ?_) (fun c_170 => ?_)
      · refine hfwd (fun z => ?_)
        first | exact c_164 (by rw [z.1]) | exact absurd c_170 (geF z.2 (by omega))
      · refine hbwd ((nI_eq (by omega) (by omega)).mp c_164) ?_
        rcases Nat.lt_or_ge I J with z | z
        · exact z
        · exact absurd (nI_le z (by omega)) c_170
  have hmain : Rch (mX5_copy, 3, 0, 0, oQ Q) 0 0 81 [some (.ref 0), some (.int (nI p)), some (.int (nI q)), some (.int i), some (.int j), some (.int n), none] [] ((mC th kd ow ag lk co sh hs tp hd rl ro rf ol ah tr od tk fo wi ou ge mo my ev se td fr to tn va im lo), r) := by
    refine r_aload_n dX5_copy_81 rfl ?_
    refine r_get bX5 17 (by decide) q1540 dX5_copy_82 rfl rfl ?_
    refine r_iload_n dX5_copy_85 rfl ?_
    refine r_ialdN dX5_copy_86 rfl (by omega) (Nat.le_of_ble_eq_true rfl) ?_
    refine r_if_lt 99 dX5_copy_87 (by decide) (fun c_ => absurd c_ (by rw [h1]; exact nI_pos (by omega))) (fun _ => ?_)
    refine r_aload_n dX5_copy_90 rfl ?_
    refine r_get bX5 17 (by decide) q1540 dX5_copy_91 rfl rfl ?_
    refine r_iload_n dX5_copy_94 rfl ?_
    refine r_ialdN dX5_copy_95 rfl (by omega) (Nat.le_of_ble_eq_true rfl) ?_
    refine r_if_ge 106 dX5_copy_96 (by decide) (fun _ => ?_) (fun c_ => absurd (by rw [h2]; exact nI_pos' (by omega)) c_)
    refine r_iload dX5_copy_106 rfl ?_
    refine r_if_lt 155 dX5_copy_108 (by decide) (fun c_108 => ?_) (fun c_108 => ?_)
    · exact hbd (cpBad ⟨⟨by first | exact Or.inl c_108 | exact Or.inr (Or.inl c_112) | exact Or.inr (Or.inr (Or.inl c_117)) | exact Or.inr (Or.inr (Or.inr (Or.inl c_134))) | exact Or.inr (Or.inr (Or.inr (Or.inr c_152)))⟩⟩ ha hb)
    · refine r_iload_n dX5_copy_111 rfl ?_
      refine r_if_lt 155 dX5_copy_112 (by decide) (fun c_112 => ?_) (fun c_112 => ?_)
      · exact hbd (cpBad ⟨⟨by first | exact Or.inl c_108 | exact Or.inr (Or.inl c_112) | exact Or.inr (Or.inr (Or.inl c_117)) | exact Or.inr (Or.inr (Or.inr (Or.inl c_134))) | exact Or.inr (Or.inr (Or.inr (Or.inr c_152)))⟩⟩ ha hb)
      · refine r_iload dX5_copy_115 rfl ?_
        refine r_if_lt 155 dX5_copy_117 (by decide) (fun c_117 => ?_) (fun c_117 => ?_)
        · exact hbd (cpBad ⟨⟨by first | exact Or.inl c_108 | exact Or.inr (Or.inl c_112) | exact Or.inr (Or.inr (Or.inl c_117)) | exact Or.inr (Or.inr (Or.inr (Or.inl c_134))) | exact Or.inr (Or.inr (Or.inr (Or.inr c_152)))⟩⟩ ha hb)
        · refine r_iload_n dX5_copy_120 rfl ?_
          refine r_i2l dX5_copy_121 ?_
          refine r_iload dX5_copy_122 rfl ?_
          refine r_i2l dX5_copy_124 ?_
          refine r_ladd dX5_copy_125 ?_
          refine r_aload_n dX5_copy_126 rfl ?_
          refine r_get bX5 18 (by decide) q1541 dX5_copy_127 rfl rfl ?_
          refine r_iload_n dX5_copy_130 rfl ?_
          refine r_ialdN dX5_copy_131 rfl (by omega) (Nat.le_of_ble_eq_true rfl) ?_
          rw [l1]
          refine r_i2l dX5_copy_132 ?_
          refine r_lcmp dX5_copy_133 ?_
          refine r_if_gt 155 dX5_copy_134 (by decide) (fun c_134 => ?_) (fun c_134 => ?_)
          · exact hbd (cpBad ⟨⟨by first | exact Or.inl c_108 | exact Or.inr (Or.inl c_112) | exact Or.inr (Or.inr (Or.inl c_117)) | exact Or.inr (Or.inr (Or.inr (Or.inl c_134))) | exact Or.inr (Or.inr (Or.inr (Or.inr c_152)))⟩⟩ ha hb)
          · refine r_iload dX5_copy_137 rfl ?_
            refine r_i2l dX5_copy_139 ?_
            refine r_iload dX5_copy_140 rfl ?_
            refine r_i2l dX5_copy_142 ?_
            refine r_ladd dX5_copy_143 ?_
            refine r_aload_n dX5_copy_144 rfl ?_
            refine r_get bX5 18 (by decide) q1541 dX5_copy_145 rfl rfl ?_
            refine r_iload_n dX5_copy_148 rfl ?_
            refine r_ialdN dX5_copy_149 rfl (by omega) (Nat.le_of_ble_eq_true rfl) ?_
            rw [l2]
            refine r_i2l dX5_copy_150 ?_
            refine r_lcmp dX5_copy_151 ?_
            refine r_if_le 162 dX5_copy_152 (by decide) (fun c_152 => ?_) (fun c_152 => ?_)
            · obtain ⟨I, J, N, e1, e2, e3, e4, e5⟩ := cpOk c_108 c_112 c_117 c_134 c_152 ha hb
              exact hgo I J N e1 e2 e3 e4 e5
            · exact hbd (cpBad ⟨⟨by first | exact Or.inl c_108 | exact Or.inr (Or.inl c_112) | exact Or.inr (Or.inr (Or.inl c_117)) | exact Or.inr (Or.inr (Or.inr (Or.inl c_134))) | exact Or.inr (Or.inr (Or.inr (Or.inr c_152)))⟩⟩ ha hb)
  refine r_iload_n dX5_copy_0 rfl ?_
  refine r_callS (as := [_]) okX5_isShelf q1627 dX5_copy_1 (Nat.le_of_ble_eq_true rfl) rfl (Nat.le_of_ble_eq_true rfl) (Nat.le_of_ble_eq_true rfl) (Nat.le_of_ble_eq_true rfl) (pX5_isShelf ?_)
  refine r_if_eq 14 dX5_copy_4 (by decide) (fun c_ => absurd c_ (b2i_n.mpr (inB_nI (N := 7) (by omega) (by decide)))) (fun _ => ?_)
  refine r_iload_n dX5_copy_7 rfl ?_
  refine r_callS (as := [_]) okX5_isShelf q1627 dX5_copy_8 (Nat.le_of_ble_eq_true rfl) rfl (Nat.le_of_ble_eq_true rfl) (Nat.le_of_ble_eq_true rfl) (Nat.le_of_ble_eq_true rfl) (pX5_isShelf ?_)
  refine r_if_ne 21 dX5_copy_11 (by decide) (fun _ => ?_) (fun c_ => absurd c_ (b2i_n.mpr (inB_nI (N := 7) (by omega) (by decide))))
  refine r_aload_n dX5_copy_21 rfl ?_
  refine r_get bX5 17 (by decide) q1540 dX5_copy_22 rfl rfl ?_
  refine r_iload_n dX5_copy_25 rfl ?_
  refine r_ialdN dX5_copy_26 rfl (by omega) (Nat.le_of_ble_eq_true rfl) ?_
  refine r_bipush 10 dX5_copy_27 (by decide) ?_
  refine r_icmp_ge 74 dX5_copy_29 (by decide) (fun c_ => absurd c_ (by rw [h1]; exact geF (N := 10) (by omega) (by decide))) (fun _ => ?_)
  refine r_aload_n dX5_copy_32 rfl ?_
  refine r_get bX5 17 (by decide) q1540 dX5_copy_33 rfl rfl ?_
  refine r_iload_n dX5_copy_36 rfl ?_
  refine r_ialdN dX5_copy_37 rfl (by omega) (Nat.le_of_ble_eq_true rfl) ?_
  refine r_bipush 10 dX5_copy_38 (by decide) ?_
  refine r_icmp_ge 74 dX5_copy_40 (by decide) (fun c_ => absurd c_ (by rw [h2]; exact geF (N := 10) (by omega) (by decide))) (fun _ => ?_)
  refine r_aload_n dX5_copy_43 rfl ?_
  refine r_iload_n dX5_copy_44 rfl ?_
  refine r_callV (as := [_]) okX5_isRow bX5 rfl rfl q1641 dX5_copy_45 (Nat.le_of_ble_eq_true rfl) rfl (Nat.le_of_ble_eq_true rfl) (Nat.le_of_ble_eq_true rfl) (Nat.le_of_ble_eq_true rfl) (pX5_isRow (by omega) ?_)
  refine r_if_eq 81 dX5_copy_48 (by decide) (fun c_ => absurd c_ (b2i_n.mpr (by rw [h1]; exact inB_nI (N := 4) (by omega) (by decide)))) (fun _ => ?_)
  refine r_aload_n dX5_copy_51 rfl ?_
  refine r_iload_n dX5_copy_52 rfl ?_
  refine r_callV (as := [_]) okX5_isRow bX5 rfl rfl q1641 dX5_copy_53 (Nat.le_of_ble_eq_true rfl) rfl (Nat.le_of_ble_eq_true rfl) (Nat.le_of_ble_eq_true rfl) (Nat.le_of_ble_eq_true rfl) (pX5_isRow (by omega) ?_)
  refine r_if_eq 81 dX5_copy_56 (by decide) (fun c_ => absurd c_ (b2i_n.mpr (by rw [h2]; exact inB_nI (N := 4) (by omega) (by decide)))) (fun _ => ?_)
  refine r_aload_n dX5_copy_59 rfl ?_
  refine r_get bX5 17 (by decide) q1540 dX5_copy_60 rfl rfl ?_
  refine r_iload_n dX5_copy_63 rfl ?_
  refine r_ialdN dX5_copy_64 rfl (by omega) (Nat.le_of_ble_eq_true rfl) ?_
  refine r_aload_n dX5_copy_65 rfl ?_
  refine r_get bX5 17 (by decide) q1540 dX5_copy_66 rfl rfl ?_
  refine r_iload_n dX5_copy_69 rfl ?_
  refine r_ialdN dX5_copy_70 rfl (by omega) (Nat.le_of_ble_eq_true rfl) ?_
  refine r_icmp_eq 81 dX5_copy_71 (by decide) (fun _ => ?_) (fun c_ => absurd (by rw [h1, h2]) c_)
  exact hmain
end MM
