set_option maxRecDepth 100000
/-! the law's cases (printed by gen/ops.py) -/
theorem ev_fo {kN : Nat → Nat} {ow lk ag th : Nat → Int32} {n : Nat} {s : Int32} (ho : ∀ j, j < n → ow j ≠ -1) (l : Nat) (hl : (evR kN ow lk ag n th s).2.1 l ≠ 0) : ((evR kN ow lk ag n th s).2.2 l).toNatClampNeg < 12 := by
  obtain ⟨q, hq, e⟩ := (ev_RsI (th := th) (kN := kN) (lk := lk) (ag := ag) (s := s) ho l).2.2 hl
  have e : (evR kN ow lk ag n th s).2.2 l = nI q := e
  rw [e, nI_clamp (by omega)]
  exact hq
theorem sw_s {sh ow lk ou ge : Nat → Int32} {n : Nat} (hn : n ≤ 8) (h : SiI sh n) : ∀ l, l < n → sh l ≠ -1 → ∃ s, s < 8 ∧ (swI sh ow lk n n (sw0 sh ou ge n)).2 l = nI s := by
  intro l hl hne
  obtain ⟨w, hw, h1, h2⟩ := sw_gets (ow := ow) (lk := lk) (ou := ou) (ge := ge) hn hl hne
  rcases h w hw with z | ⟨s, hs, e⟩
  · exact absurd z h1
  · exact ⟨s, hs, h2.trans e⟩
theorem ge_Si {sh ow lk ou ge : Nat → Int32} {n : Nat} (hn : n ≤ 8) (h : SiI sh n) : SiI (geR (fun l => sh l != -1) (swI sh ow lk n n (sw0 sh ou ge n)).2 sh n) n := by
  intro l hl
  unfold geR
  by_cases g : l < n ∧ (sh l != -1) = true
  · rw [if_pos g]
    exact Or.inr (sw_s hn h l hl (by simpa using g.2))
  · rw [if_neg g]
    exact h l hl
theorem si_SiI {th tk fo sh : Nat → Int32} {n : Nat} (hth : ThI th) (hfo : ∀ l, tk l ≠ 0 → (fo l).toNatClampNeg < 12) (h : SiI sh n) : ∀ k, SiI (siF th tk fo sh k) n
  | 0 => h
  | k + 1 => by
    intro q hq
    have ih := si_SiI hth hfo h k q hq
    show (if tk k = 0 then siF th tk fo sh k else upd (siF th tk fo sh k) k (th (fo k).toNatClampNeg)) q = -1 ∨ ∃ s, s < 8 ∧ (if tk k = 0 then siF th tk fo sh k else upd (siF th tk fo sh k) k (th (fo k).toNatClampNeg)) q = nI s
    by_cases g : tk k = 0
    · rw [if_pos g]; exact ih
    · rw [if_neg g]
      by_cases e : q = k
      · rw [show upd (siF th tk fo sh k) k (th (fo k).toNatClampNeg) q = th (fo k).toNatClampNeg by simp [upd, e]]
        exact hth _ (hfo k g)
      · rw [show upd (siF th tk fo sh k) k (th (fo k).toNatClampNeg) q = siF th tk fo sh k q by simp [upd, e]]
        exact ih
theorem ev_Hs {kN : Nat → Nat} {ow lk ag th hs : Nat → Int32} {n : Nat} {s : Int32} (hn : n ≤ 8) (ho : ∀ j, j < n → ow j ≠ -1) (h : ThI th) (hH : HsI hs) : HsI (haF th (evR kN ow lk ag n th s).2.1 hs n).2 :=
  ha_HsI h (fun l q hq g => (ev_RsI (kN := kN) (lk := lk) (ag := ag) (s := s) ho l).2.1 q hq g) hH n hn
theorem ev_Si {kN : Nat → Nat} {ow lk ag th sh : Nat → Int32} {n : Nat} {s : Int32} (ho : ∀ j, j < n → ow j ≠ -1) (h : ThI th) (hS : SiI sh n) : SiI (siF th (evR kN ow lk ag n th s).2.1 (evR kN ow lk ag n th s).2.2 sh n) n :=
  si_SiI h (fun l hl => ev_fo ho l hl) hS n
theorem ch_Si {w : Nat} {kN : Nat → Nat} {ow lk ag co : Nat → Int32} {n : Nat} {S : CS} (ho : ∀ j, j < n → ow j ≠ -1) (h : ThI S.1) (hS : SiI S.2.1 n) (k : Nat) : SiI (chK w kN ow lk ag co n S k).2.1 n := by
  induction k with
  | zero => exact hS
  | succ k ih => exact si_SiI (ch_ThI ho h k) (fun l hl => ev_fo ho l hl) ih n
theorem in40 {v : Int32} {m : Nat} (h1 : 1 ≤ m) (h2 : m ≤ 40) (e : v = nI m) : inB v 1 40 = true := by
  have : ∀ m, m < 41 → 1 ≤ m → inB (nI m) 1 40 = true := by decide
  rw [e]
  exact this m (by omega) h1
theorem law_44 {L : Nat} {xs : Nat → Int32} {k i ce sl : Nat} {h : AHp} (hi : i + 6 ≤ L) (hLL : L < 1000) (hce : ce ≤ 593672) (hsl : sl ≤ 7149314) (hC : Can k h) (hG : GoL L xs k i ce sl) : RchX (ScP L xs) JL ce sl 1581 [some (.ref 4), some (.ref 1), some (.ref 0), some (.int (nI i))] [] h := by
  obtain ⟨th, kd, ow, ag, lk, co, sh, hs, tp, hd, rl, ro, rf, ol, ah, tr, od, tk, fo, wi, ou, ge, mo, ev, se, fr, to, tn, va, im, lo, iv, tP, tL, tA, tK, tC, tS, tH, tN, tE, tZ, tf, mP, mf, eP, eT, eF, ef, eg, ew, rx, gx, wx, hv, rc, ic, pf, lc, n, t, kN, rfl, hcp⟩ := hC
  obtain ⟨hn, htk, hLk, hP, hHs, hSi, hSh, hIm, hFx⟩ := hcp
  have hLI := lkI_of hn hLk
  obtain ⟨hk, ho⟩ := lkH_of hLk
  have hNn := nl_none n
  by_cases hb : inB (xs (i + 1)) 0 (allS n) = true
  · refine x_aload_n dL_law_1581 rfl ?_
    refine x_aload_n dL_law_1582 rfl ?_
    refine x_iload_n dL_law_1583 rfl ?_
    refine x_iconst 1 dL_law_1584 (by decide) ?_
    refine x_iadd dL_law_1585 ?_
    refine x_sldE (j := i + 1) dL_law_1586 (nI_add i 1) (by omega) hLL ?_
    refine x_callV (as := [_]) okX0_evening bX0 rfl rfl q1458 dL_law_1587 (Nat.le_of_ble_eq_true rfl) rfl (Nat.le_of_ble_eq_true rfl) (by show _ ≤ 603072; omega) (by show _ ≤ 7262314; omega) (pX0_evening hn hLI hP hHs (fun z => absurd (hb.symm.trans z) (by decide)) (fun b01 => ?_))
    intros
    refine x_aload_n dL_law_1590 rfl ?_
    refine x_aload_n dL_law_1591 rfl ?_
    refine x_iload_n dL_law_1592 rfl ?_
    refine x_iconst 1 dL_law_1593 (by decide) ?_
    refine x_iadd dL_law_1594 ?_
    refine x_sldE (j := i + 1) dL_law_1595 (nI_add i 1) (by omega) hLL ?_
    refine x_callV (as := [_]) okX5_evening bX5 rfl rfl q2007 dL_law_1596 (Nat.le_of_ble_eq_true rfl) rfl (Nat.le_of_ble_eq_true rfl) (by show _ ≤ 603072; omega) (by show _ ≤ 7262314; omega) (pX5_evening hn hk ho hP (fun z => absurd (hb.symm.trans z) (by decide)) (fun b02 => ?_))
    intros
    refine x_icmp_eq 1712 dL_law_1599 (by decide) (fun _ => ?_) (fun c_ => absurd (rfl) c_)
    exact go_fin (kN := kN) hG ⟨hn, by omega, hLk, ev_ThI ho hP, ev_Hs hn ho hP hHs, ev_Si ho hP hSi, hSh, hIm, hFx⟩ (by omega) (by omega)
  · refine x_aload_n dL_law_1581 rfl ?_
    refine x_aload_n dL_law_1582 rfl ?_
    refine x_iload_n dL_law_1583 rfl ?_
    refine x_iconst 1 dL_law_1584 (by decide) ?_
    refine x_iadd dL_law_1585 ?_
    refine x_sldE (j := i + 1) dL_law_1586 (nI_add i 1) (by omega) hLL ?_
    refine x_callV (as := [_]) okX0_evening bX0 rfl rfl q1458 dL_law_1587 (Nat.le_of_ble_eq_true rfl) rfl (Nat.le_of_ble_eq_true rfl) (by show _ ≤ 603072; omega) (by show _ ≤ 7262314; omega) (pX0_evening hn hLI hP hHs (fun _ => ?_) (fun b01 => absurd (by rw [b01] <;> rfl) hb))
    intros
    refine x_aload_n dL_law_1590 rfl ?_
    refine x_aload_n dL_law_1591 rfl ?_
    refine x_iload_n dL_law_1592 rfl ?_
    refine x_iconst 1 dL_law_1593 (by decide) ?_
    refine x_iadd dL_law_1594 ?_
    refine x_sldE (j := i + 1) dL_law_1595 (nI_add i 1) (by omega) hLL ?_
    refine x_callV (as := [_]) okX5_evening bX5 rfl rfl q2007 dL_law_1596 (Nat.le_of_ble_eq_true rfl) rfl (Nat.le_of_ble_eq_true rfl) (by show _ ≤ 603072; omega) (by show _ ≤ 7262314; omega) (pX5_evening hn hk ho hP (fun _ => ?_) (fun b02 => absurd (by rw [b02] <;> rfl) hb))
    intros
    refine x_icmp_eq 1712 dL_law_1599 (by decide) (fun _ => ?_) (fun c_ => absurd (rfl) c_)
    exact go_fin (kN := kN) hG ⟨hn, by omega, hLk, hP, hHs, hSi, hSh, hIm, hFx⟩ (by omega) (by omega)
theorem law_46 {L : Nat} {xs : Nat → Int32} {k i ce sl : Nat} {h : AHp} (hi : i + 6 ≤ L) (hLL : L < 1000) (hce : ce ≤ 593672) (hsl : sl ≤ 7149314) (hC : Can k h) (hG : GoL L xs k i ce sl) : RchX (ScP L xs) JL ce sl 1617 [some (.ref 4), some (.ref 1), some (.ref 0), some (.int (nI i))] [] h := by
  obtain ⟨th, kd, ow, ag, lk, co, sh, hs, tp, hd, rl, ro, rf, ol, ah, tr, od, tk, fo, wi, ou, ge, mo, ev, se, fr, to, tn, va, im, lo, iv, tP, tL, tA, tK, tC, tS, tH, tN, tE, tZ, tf, mP, mf, eP, eT, eF, ef, eg, ew, rx, gx, wx, hv, rc, ic, pf, lc, n, t, kN, rfl, hcp⟩ := hC
  obtain ⟨hn, htk, hLk, hP, hHs, hSi, hSh, hIm, hFx⟩ := hcp
  have hLI := lkI_of hn hLk
  obtain ⟨hk, ho⟩ := lkH_of hLk
  have hNn := nl_none n
  obtain ⟨w12, hw12⟩ : ∃ w, w = 12 := ⟨_, rfl⟩
  by_cases hb : inB (xs (i + 1)) 1 40 = true
  · refine x_aload_n dL_law_1617 rfl ?_
    refine x_aload_n dL_law_1618 rfl ?_
    refine x_iload_n dL_law_1619 rfl ?_
    refine x_iconst 1 dL_law_1620 (by decide) ?_
    refine x_iadd dL_law_1621 ?_
    refine x_sldE (j := i + 1) dL_law_1622 (nI_add i 1) (by omega) hLL ?_
    refine x_callV (as := [_]) okX0_christmases bX0 rfl rfl q1476 dL_law_1623 (Nat.le_of_ble_eq_true rfl) rfl (Nat.le_of_ble_eq_true rfl) (by show _ ≤ 603072; omega) (by show _ ≤ 7262314; omega) (pX0_christmases hw12 hn hLI hP hHs (fun z => absurd (hb.symm.trans z) (by decide)) (fun m1 g1 f1 e1 => ?_))
    intros
    refine x_aload_n dL_law_1626 rfl ?_
    refine x_aload_n dL_law_1627 rfl ?_
    refine x_iload_n dL_law_1628 rfl ?_
    refine x_iconst 1 dL_law_1629 (by decide) ?_
    refine x_iadd dL_law_1630 ?_
    refine x_sldE (j := i + 1) dL_law_1631 (nI_add i 1) (by omega) hLL ?_
    refine x_callV (as := [_]) okX5_christmases bX5 rfl rfl q2021 dL_law_1632 (Nat.le_of_ble_eq_true rfl) rfl (Nat.le_of_ble_eq_true rfl) (by show _ ≤ 603072; omega) (by show _ ≤ 7262314; omega) (pX5_christmases hw12 hn hk ho hP (fun z => absurd (hb.symm.trans z) (by decide)) (fun m2 g2 f2 e2 => ?_))
    intros
    obtain rfl := nJ (by omega) (by omega) e1 e2
    refine x_icmp_eq 1712 dL_law_1635 (by decide) (fun _ => ?_) (fun c_ => absurd (rfl) c_)
    exact go_fin (kN := kN) hG ⟨hn, by omega, hLk, ch_ThI ho hP _, ch_HsI hn ho hP hHs _, ch_Si ho hP hSi _, hSh, hIm, hFx⟩ (by omega) (by omega)
  · refine x_aload_n dL_law_1617 rfl ?_
    refine x_aload_n dL_law_1618 rfl ?_
    refine x_iload_n dL_law_1619 rfl ?_
    refine x_iconst 1 dL_law_1620 (by decide) ?_
    refine x_iadd dL_law_1621 ?_
    refine x_sldE (j := i + 1) dL_law_1622 (nI_add i 1) (by omega) hLL ?_
    refine x_callV (as := [_]) okX0_christmases bX0 rfl rfl q1476 dL_law_1623 (Nat.le_of_ble_eq_true rfl) rfl (Nat.le_of_ble_eq_true rfl) (by show _ ≤ 603072; omega) (by show _ ≤ 7262314; omega) (pX0_christmases hw12 hn hLI hP hHs (fun _ => ?_) (fun m h1 h2 e => absurd (in40 h1 h2 e) hb))
    intros
    refine x_aload_n dL_law_1626 rfl ?_
    refine x_aload_n dL_law_1627 rfl ?_
    refine x_iload_n dL_law_1628 rfl ?_
    refine x_iconst 1 dL_law_1629 (by decide) ?_
    refine x_iadd dL_law_1630 ?_
    refine x_sldE (j := i + 1) dL_law_1631 (nI_add i 1) (by omega) hLL ?_
    refine x_callV (as := [_]) okX5_christmases bX5 rfl rfl q2021 dL_law_1632 (Nat.le_of_ble_eq_true rfl) rfl (Nat.le_of_ble_eq_true rfl) (by show _ ≤ 603072; omega) (by show _ ≤ 7262314; omega) (pX5_christmases hw12 hn hk ho hP (fun _ => ?_) (fun m h1 h2 e => absurd (in40 h1 h2 e) hb))
    intros
    refine x_icmp_eq 1712 dL_law_1635 (by decide) (fun _ => ?_) (fun c_ => absurd (rfl) c_)
    exact go_fin (kN := kN) hG ⟨hn, by omega, hLk, hP, hHs, hSi, hSh, hIm, hFx⟩ (by omega) (by omega)
theorem law_4 {L : Nat} {xs : Nat → Int32} {k i ce sl : Nat} {h : AHp} (hi : i + 6 ≤ L) (hLL : L < 1000) (hce : ce ≤ 593672) (hsl : sl ≤ 7149314) (hC : Can k h) (hG : GoL L xs k i ce sl) : RchX (ScP L xs) JL ce sl 465 [some (.ref 4), some (.ref 1), some (.ref 0), some (.int (nI i))] [] h := by
  obtain ⟨th, kd, ow, ag, lk, co, sh, hs, tp, hd, rl, ro, rf, ol, ah, tr, od, tk, fo, wi, ou, ge, mo, ev, se, fr, to, tn, va, im, lo, iv, tP, tL, tA, tK, tC, tS, tH, tN, tE, tZ, tf, mP, mf, eP, eT, eF, ef, eg, ew, rx, gx, wx, hv, rc, ic, pf, lc, n, t, kN, rfl, hcp⟩ := hC
  obtain ⟨hn, htk, hLk, hP, hHs, hSi, hSh, hIm, hFx⟩ := hcp
  have hLI := lkI_of hn hLk
  obtain ⟨hk, ho⟩ := lkH_of hLk
  have hNn := nl_none n
  by_cases hb : inB (xs (i + 1)) 0 7 = true
  · obtain ⟨j, hj, ej⟩ : ∃ j, j < 8 ∧ xs (i + 1) = nI j := inB_m (m := 8) hb (by omega)
    rcases hSh j hj with ⟨h1, h2⟩ | ⟨kk, m, f, h1, h2, h3, h4, h5, h6, h7⟩ | ⟨x, h1, h2, h3⟩
    · refine x_aload_n dL_law_465 rfl ?_
      refine x_aload_n dL_law_466 rfl ?_
      refine x_iload_n dL_law_467 rfl ?_
      refine x_iconst 1 dL_law_468 (by decide) ?_
      refine x_iadd dL_law_469 ?_
      refine x_sldE (j := i + 1) dL_law_470 (nI_add i 1) (by omega) hLL ?_
      rw [ej]
      refine x_callV (as := [_]) okX0_holds bX0 rfl rfl q511 dL_law_471 (Nat.le_of_ble_eq_true rfl) rfl (Nat.le_of_ble_eq_true rfl) (by show _ ≤ 603072; omega) (by show _ ≤ 7262314; omega) (pX0_holds_0 hj h2 ?_)
      intros
      refine x_aload_n dL_law_474 rfl ?_
      refine x_aload_n dL_law_475 rfl ?_
      refine x_iload_n dL_law_476 rfl ?_
      refine x_iconst 1 dL_law_477 (by decide) ?_
      refine x_iadd dL_law_478 ?_
      refine x_sldE (j := i + 1) dL_law_479 (nI_add i 1) (by omega) hLL ?_
      rw [ej]
      refine x_callV (as := [_]) okX5_holds bX5 rfl rfl q1660 dL_law_480 (Nat.le_of_ble_eq_true rfl) rfl (Nat.le_of_ble_eq_true rfl) (by show _ ≤ 603072; omega) (by show _ ≤ 7262314; omega) (pX5_holds (fun z => absurd ((show inB (nI j) 0 7 = true from inB_mI (m := 8) hj (by omega)).symm.trans z) (by decide)) (fun j2 hj2 e2 => ?_))
      intros
      obtain rfl := nJ (by omega) (by omega) (show nI j = nI j from rfl) e2
      rw [h1]
      refine x_icmp_eq 1712 dL_law_483 (by decide) (fun _ => ?_) (fun c_ => absurd (rfl) c_)
      exact go_fin (kN := kN) hG ⟨hn, by omega, hLk, hP, hHs, hSi, hSh, hIm, hFx⟩ (by omega) (by omega)
    · refine x_aload_n dL_law_465 rfl ?_
      refine x_aload_n dL_law_466 rfl ?_
      refine x_iload_n dL_law_467 rfl ?_
      refine x_iconst 1 dL_law_468 (by decide) ?_
      refine x_iadd dL_law_469 ?_
      refine x_sldE (j := i + 1) dL_law_470 (nI_add i 1) (by omega) hLL ?_
      rw [ej]
      refine x_callV (as := [_]) okX0_holds bX0 rfl rfl q511 dL_law_471 (Nat.le_of_ble_eq_true rfl) rfl (Nat.le_of_ble_eq_true rfl) (by show _ ≤ 603072; omega) (by show _ ≤ 7262314; omega) (pX0_holds_r hj h5 h1 ((rc_at hj).trans (congrArg some h6)) ?_)
      intros
      refine x_aload_n dL_law_474 rfl ?_
      refine x_aload_n dL_law_475 rfl ?_
      refine x_iload_n dL_law_476 rfl ?_
      refine x_iconst 1 dL_law_477 (by decide) ?_
      refine x_iadd dL_law_478 ?_
      refine x_sldE (j := i + 1) dL_law_479 (nI_add i 1) (by omega) hLL ?_
      rw [ej]
      refine x_callV (as := [_]) okX5_holds bX5 rfl rfl q1660 dL_law_480 (Nat.le_of_ble_eq_true rfl) rfl (Nat.le_of_ble_eq_true rfl) (by show _ ≤ 603072; omega) (by show _ ≤ 7262314; omega) (pX5_holds (fun z => absurd ((show inB (nI j) 0 7 = true from inB_mI (m := 8) hj (by omega)).symm.trans z) (by decide)) (fun j2 hj2 e2 => ?_))
      intros
      obtain rfl := nJ (by omega) (by omega) (show nI j = nI j from rfl) e2
      rw [h3]
      refine x_icmp_eq 1712 dL_law_483 (by decide) (fun _ => ?_) (fun c_ => absurd (rfl) c_)
      exact go_fin (kN := kN) hG ⟨hn, by omega, hLk, hP, hHs, hSi, hSh, hIm, hFx⟩ (by omega) (by omega)
    · refine x_aload_n dL_law_465 rfl ?_
      refine x_aload_n dL_law_466 rfl ?_
      refine x_iload_n dL_law_467 rfl ?_
      refine x_iconst 1 dL_law_468 (by decide) ?_
      refine x_iadd dL_law_469 ?_
      refine x_sldE (j := i + 1) dL_law_470 (nI_add i 1) (by omega) hLL ?_
      rw [ej]
      refine x_callV (as := [_]) okX0_holds bX0 rfl rfl q511 dL_law_471 (Nat.le_of_ble_eq_true rfl) rfl (Nat.le_of_ble_eq_true rfl) (by show _ ≤ 603072; omega) (by show _ ≤ 7262314; omega) (pX0_holds_l hj h3 (hLk x h1).1 ((lc_at (by omega)).trans (congrArg some (hLk x h1).2.2.2)) ?_)
      intros
      refine x_aload_n dL_law_474 rfl ?_
      refine x_aload_n dL_law_475 rfl ?_
      refine x_iload_n dL_law_476 rfl ?_
      refine x_iconst 1 dL_law_477 (by decide) ?_
      refine x_iadd dL_law_478 ?_
      refine x_sldE (j := i + 1) dL_law_479 (nI_add i 1) (by omega) hLL ?_
      rw [ej]
      refine x_callV (as := [_]) okX5_holds bX5 rfl rfl q1660 dL_law_480 (Nat.le_of_ble_eq_true rfl) rfl (Nat.le_of_ble_eq_true rfl) (by show _ ≤ 603072; omega) (by show _ ≤ 7262314; omega) (pX5_holds (fun z => absurd ((show inB (nI j) 0 7 = true from inB_mI (m := 8) hj (by omega)).symm.trans z) (by decide)) (fun j2 hj2 e2 => ?_))
      intros
      obtain rfl := nJ (by omega) (by omega) (show nI j = nI j from rfl) e2
      rw [h2]
      rw [show (10 : Int32) + nI x = nI (10 + x) from nI_add 10 x]
      refine x_icmp_eq 1712 dL_law_483 (by decide) (fun _ => ?_) (fun c_ => absurd (rfl) c_)
      exact go_fin (kN := kN) hG ⟨hn, by omega, hLk, hP, hHs, hSi, hSh, hIm, hFx⟩ (by omega) (by omega)
  · refine x_aload_n dL_law_465 rfl ?_
    refine x_aload_n dL_law_466 rfl ?_
    refine x_iload_n dL_law_467 rfl ?_
    refine x_iconst 1 dL_law_468 (by decide) ?_
    refine x_iadd dL_law_469 ?_
    refine x_sldE (j := i + 1) dL_law_470 (nI_add i 1) (by omega) hLL ?_
    refine x_callV (as := [_]) okX0_holds bX0 rfl rfl q511 dL_law_471 (Nat.le_of_ble_eq_true rfl) rfl (Nat.le_of_ble_eq_true rfl) (by show _ ≤ 603072; omega) (by show _ ≤ 7262314; omega) (pX0_holds_bad (Bool.not_eq_true _ |>.mp hb) ?_)
    intros
    refine x_aload_n dL_law_474 rfl ?_
    refine x_aload_n dL_law_475 rfl ?_
    refine x_iload_n dL_law_476 rfl ?_
    refine x_iconst 1 dL_law_477 (by decide) ?_
    refine x_iadd dL_law_478 ?_
    refine x_sldE (j := i + 1) dL_law_479 (nI_add i 1) (by omega) hLL ?_
    refine x_callV (as := [_]) okX5_holds bX5 rfl rfl q1660 dL_law_480 (Nat.le_of_ble_eq_true rfl) rfl (Nat.le_of_ble_eq_true rfl) (by show _ ≤ 603072; omega) (by show _ ≤ 7262314; omega) (pX5_holds (fun _ => ?_) (fun j hj e => absurd (by rw [e]; exact inB_mI (m := 8) hj (by omega)) hb))
    intros
    refine x_icmp_eq 1712 dL_law_483 (by decide) (fun _ => ?_) (fun c_ => absurd (rfl) c_)
    exact go_fin (kN := kN) hG ⟨hn, by omega, hLk, hP, hHs, hSi, hSh, hIm, hFx⟩ (by omega) (by omega)
theorem law_45 {L : Nat} {xs : Nat → Int32} {k i ce sl : Nat} {h : AHp} (hi : i + 6 ≤ L) (hLL : L < 1000) (hce : ce ≤ 593672) (hsl : sl ≤ 7149314) (hC : Can k h) (hG : GoL L xs k i ce sl) : RchX (ScP L xs) JL ce sl 1604 [some (.ref 4), some (.ref 1), some (.ref 0), some (.int (nI i))] [] h := by
  obtain ⟨th, kd, ow, ag, lk, co, sh, hs, tp, hd, rl, ro, rf, ol, ah, tr, od, tk, fo, wi, ou, ge, mo, ev, se, fr, to, tn, va, im, lo, iv, tP, tL, tA, tK, tC, tS, tH, tN, tE, tZ, tf, mP, mf, eP, eT, eF, ef, eg, ew, rx, gx, wx, hv, rc, ic, pf, lc, n, t, kN, rfl, hcp⟩ := hC
  obtain ⟨hn, htk, hLk, hP, hHs, hSi, hSh, hIm, hFx⟩ := hcp
  have hLI := lkI_of hn hLk
  obtain ⟨hk, ho⟩ := lkH_of hLk
  have hNn := nl_none n
  refine x_aload_n dL_law_1604 rfl ?_
  refine x_callV (as := []) okX0_swap bX0 rfl rfl q1472 dL_law_1605 (Nat.le_of_ble_eq_true rfl) rfl (Nat.le_of_ble_eq_true rfl) (by show _ ≤ 603072; omega) (by show _ ≤ 7262314; omega) (pX0_swap (ou := ou) (ge := ge) hn hLI hSi hHs ?_)
  intros
  refine x_aload_n dL_law_1608 rfl ?_
  refine x_callV (as := []) okX5_swap bX5 rfl rfl q2016 dL_law_1609 (Nat.le_of_ble_eq_true rfl) rfl (Nat.le_of_ble_eq_true rfl) (by show _ ≤ 603072; omega) (by show _ ≤ 7262314; omega) (pX5_swap hn hSi ?_)
  intros
  refine x_icmp_eq 1712 dL_law_1612 (by decide) (fun _ => ?_) (fun c_ => absurd (rfl) c_)
  exact go_fin (kN := kN) hG ⟨hn, by omega, hLk, hP, hw_HsI hn hSi (sw_s hn hSi) hHs n (Nat.le_refl _), ge_Si hn hSi, hSh, hIm, hFx⟩ (by omega) (by omega)
