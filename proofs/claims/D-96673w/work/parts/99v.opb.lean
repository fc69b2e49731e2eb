set_option maxRecDepth 100000
/-! the law's cases (printed by gen/ops.py) -/
theorem ts_same {g ro : Nat → Int64} {b m : Nat} {c : Int32} (h : ∀ q, q < 2 * m → g q = ro (b + q)) : ∀ k, k ≤ m → tsF g 0 c k = tsF ro b c k
  | 0, _ => rfl
  | k + 1, hk => by
    show (if ¬ lg_cmp (g (0 + 2 * k)) 0 < 0 ∧ lg_cmp (g (0 + 2 * k)) c.toInt64 < 0 then tsF g 0 c k ||| ((1 : Int32) <<< ((g (0 + 2 * k)).toInt32 &&& 31)) else tsF g 0 c k) = if ¬ lg_cmp (ro (b + 2 * k)) 0 < 0 ∧ lg_cmp (ro (b + 2 * k)) c.toInt64 < 0 then tsF ro b c k ||| ((1 : Int32) <<< ((ro (b + 2 * k)).toInt32 &&& 31)) else tsF ro b c k
    rw [Nat.zero_add, h (2 * k) (by omega), ts_same h k (by omega)]
theorem wrG_same {g ro : Nat → Int64} {b m : Nat} {L : List Nat} {fS : Nat → Nat → Int32} (h : ∀ q, q < 2 * m → g q = ro (b + q)) : ∀ q i, i + q ≤ m → wrG g 0 L fS q i = wrG ro b L fS q i
  | 0, _, _ => rfl
  | q + 1, i, hi => by
    show (if i < L.length ∧ g (0 + 2 * i) = _ ∧ g (0 + (2 * i + 1)) = _ then wrG g 0 L fS q (i + 1) else nI i) = if i < L.length ∧ ro (b + 2 * i) = _ ∧ ro (b + (2 * i + 1)) = _ then wrG ro b L fS q (i + 1) else nI i
    rw [Nat.zero_add, Nat.zero_add, h (2 * i) (by omega), h (2 * i + 1) (by omega), wrG_same h q (i + 1) (by omega)]
theorem wr_same {kN : Nat → Nat} {ow lk ag th : Nat → Int32} {n z j : Nat} {f ro : Nat → Int64} (h : ∀ q, q < 2 * z → f q = ro (40 * j + q)) : wrF kN ow lk ag n th (tdF f (2 * z)) 0 z = wrF kN ow lk ag n th ro (40 * j) z := by
  have hg : ∀ q, q < 2 * z → tdF f (2 * z) q = ro (40 * j + q) := fun q hq => by
    unfold tdF
    rw [if_pos hq]
    exact h q hq
  unfold wrF
  rw [ts_same hg z (Nat.le_refl _), wrG_same hg z 0 (by omega)]
theorem law_43 {L : Nat} {xs : Nat → Int32} {k i ce sl : Nat} {h : AHp} (hi : i + 6 ≤ L) (hLL : L < 1000) (hce : ce ≤ 593672) (hsl : sl ≤ 7149314) (hC : Can k h) (hG : GoL L xs k i ce sl) : RchX (ScP L xs) JL ce sl 1548 [some (.ref 4), some (.ref 1), some (.ref 0), some (.int (nI i))] [] h := by
  obtain ⟨th, kd, ow, ag, lk, co, sh, hs, tp, hd, rl, ro, rf, ol, ah, tr, od, tk, fo, wi, ou, ge, mo, ev, se, fr, to, tn, va, im, lo, iv, tP, tL, tA, tK, tC, tS, tH, tN, tE, tZ, tf, mP, mf, eP, eT, eF, ef, eg, ew, rx, gx, wx, hv, rc, ic, pf, lc, n, t, kN, rfl, hcp⟩ := hC
  obtain ⟨hn, htk, hLk, hP, hHs, hSi, hSh, hIm, hFx⟩ := hcp
  have hLI := lkI_of hn hLk
  obtain ⟨hk, ho⟩ := lkH_of hLk
  have hNn := nl_none n
  by_cases hb : (inB (xs (i + 1)) 0 7 && inB (xs (i + 2)) 0 20) = true
  · have hb2 := hb
    rw [Bool.and_eq_true] at hb2
    obtain ⟨j, hj, ej⟩ : ∃ j, j < 8 ∧ xs (i + 1) = nI j := inB_m (m := 8) hb2.1 (by omega)
    obtain ⟨z, hz0, ez⟩ : ∃ z, z < 21 ∧ xs (i + 2) = nI z := inB_m (m := 21) hb2.2 (by omega)
    have hz : z ≤ 20 := by omega
    rcases hSh j hj with ⟨h1, h2⟩ | ⟨kk, m, f, h1, h2, h3, h4, h5, h6, h7⟩ | ⟨x, h1, h2, h3⟩
    · refine x_aload_n dL_law_1548 rfl ?_
      refine x_aload_n dL_law_1549 rfl ?_
      refine x_iload_n dL_law_1550 rfl ?_
      refine x_iconst 1 dL_law_1551 (by decide) ?_
      refine x_iadd dL_law_1552 ?_
      refine x_sldE (j := i + 1) dL_law_1553 (nI_add i 1) (by omega) hLL ?_
      refine x_aload_n dL_law_1554 rfl ?_
      refine x_iload_n dL_law_1555 rfl ?_
      refine x_iconst 2 dL_law_1556 (by decide) ?_
      refine x_iadd dL_law_1557 ?_
      refine x_sldE (j := i + 2) dL_law_1558 (nI_add i 2) (by omega) hLL ?_
      rw [ej, ez]
      refine x_xV (as := [_, _]) oxX0_judge bX0 rfl rfl q1441 dL_law_1559 (Nat.le_of_ble_eq_true rfl) rfl (Nat.le_of_ble_eq_true rfl) (by show _ ≤ 603072; omega) (by show _ ≤ 7262314; omega) (pX0_judge_0 hj hz h2 (fun _ => ?_))
      intros
      refine x_aload_n dL_law_1562 rfl ?_
      refine x_aload_n dL_law_1563 rfl ?_
      refine x_iload_n dL_law_1564 rfl ?_
      refine x_iconst 1 dL_law_1565 (by decide) ?_
      refine x_iadd dL_law_1566 ?_
      refine x_sldE (j := i + 1) dL_law_1567 (nI_add i 1) (by omega) hLL ?_
      refine x_aload_n dL_law_1568 rfl ?_
      refine x_iload_n dL_law_1569 rfl ?_
      refine x_iconst 2 dL_law_1570 (by decide) ?_
      refine x_iadd dL_law_1571 ?_
      refine x_sldE (j := i + 2) dL_law_1572 (nI_add i 2) (by omega) hLL ?_
      rw [ej, ez]
      refine x_callV (as := [_, _]) okX5_judge bX5 rfl rfl q1995 dL_law_1573 (Nat.le_of_ble_eq_true rfl) rfl (Nat.le_of_ble_eq_true rfl) (by show _ ≤ 603072; omega) (by show _ ≤ 7262314; omega) (pX5_judge_none hj hz h1 ?_)
      intros
      refine x_icmp_eq 1712 dL_law_1576 (by decide) (fun _ => ?_) (fun c_ => absurd (rfl) c_)
      exact go_fin (kN := kN) hG ⟨hn, by omega, hLk, hP, hHs, hSi, hSh, hIm, hFx⟩ (by omega) (by omega)
    · by_cases hm : m < 2 * z
      · refine x_aload_n dL_law_1548 rfl ?_
        refine x_aload_n dL_law_1549 rfl ?_
        refine x_iload_n dL_law_1550 rfl ?_
        refine x_iconst 1 dL_law_1551 (by decide) ?_
        refine x_iadd dL_law_1552 ?_
        refine x_sldE (j := i + 1) dL_law_1553 (nI_add i 1) (by omega) hLL ?_
        refine x_aload_n dL_law_1554 rfl ?_
        refine x_iload_n dL_law_1555 rfl ?_
        refine x_iconst 2 dL_law_1556 (by decide) ?_
        refine x_iadd dL_law_1557 ?_
        refine x_sldE (j := i + 2) dL_law_1558 (nI_add i 2) (by omega) hLL ?_
        rw [ej, ez]
        refine x_xV (as := [_, _]) oxX0_judge bX0 rfl rfl q1441 dL_law_1559 (Nat.le_of_ble_eq_true rfl) rfl (Nat.le_of_ble_eq_true rfl) (by show _ ≤ 603072; omega) (by show _ ≤ 7262314; omega) (pX0_judge_r hn hLI hP hj hz h5 h1 h2 ((rc_at hj).trans (congrArg some h6)) (fun q hq => (h7 q hq).2) (fun w => absurd hm (by omega)) (fun _ _ => ?_))
        intros
        refine x_aload_n dL_law_1562 rfl ?_
        refine x_aload_n dL_law_1563 rfl ?_
        refine x_iload_n dL_law_1564 rfl ?_
        refine x_iconst 1 dL_law_1565 (by decide) ?_
        refine x_iadd dL_law_1566 ?_
        refine x_sldE (j := i + 1) dL_law_1567 (nI_add i 1) (by omega) hLL ?_
        refine x_aload_n dL_law_1568 rfl ?_
        refine x_iload_n dL_law_1569 rfl ?_
        refine x_iconst 2 dL_law_1570 (by decide) ?_
        refine x_iadd dL_law_1571 ?_
        refine x_sldE (j := i + 2) dL_law_1572 (nI_add i 2) (by omega) hLL ?_
        rw [ej, ez]
        refine x_callV (as := [_, _]) okX5_judge bX5 rfl rfl q1995 dL_law_1573 (Nat.le_of_ble_eq_true rfl) rfl (Nat.le_of_ble_eq_true rfl) (by show _ ≤ 603072; omega) (by show _ ≤ 7262314; omega) (pX5_judge_row hn hk ho hj hz h1 h3 h2 h4 (fun _ => ?_) (fun w => absurd hm w))
        intros
        refine x_icmp_eq 1712 dL_law_1576 (by decide) (fun _ => ?_) (fun c_ => absurd (rfl) c_)
        exact go_fin (kN := kN) hG ⟨hn, by omega, hLk, hP, hHs, hSi, hSh, hIm, hFx⟩ (by omega) (by omega)
      · have ewr := wr_same (kN := kN) (ow := ow) (lk := lk) (ag := ag) (n := n) (th := th) (z := z) (fun q hq => (h7 q (by omega)).1)
        refine x_aload_n dL_law_1548 rfl ?_
        refine x_aload_n dL_law_1549 rfl ?_
        refine x_iload_n dL_law_1550 rfl ?_
        refine x_iconst 1 dL_law_1551 (by decide) ?_
        refine x_iadd dL_law_1552 ?_
        refine x_sldE (j := i + 1) dL_law_1553 (nI_add i 1) (by omega) hLL ?_
        refine x_aload_n dL_law_1554 rfl ?_
        refine x_iload_n dL_law_1555 rfl ?_
        refine x_iconst 2 dL_law_1556 (by decide) ?_
        refine x_iadd dL_law_1557 ?_
        refine x_sldE (j := i + 2) dL_law_1558 (nI_add i 2) (by omega) hLL ?_
        rw [ej, ez]
        refine x_xV (as := [_, _]) oxX0_judge bX0 rfl rfl q1441 dL_law_1559 (Nat.le_of_ble_eq_true rfl) rfl (Nat.le_of_ble_eq_true rfl) (by show _ ≤ 603072; omega) (by show _ ≤ 7262314; omega) (pX0_judge_r hn hLI hP hj hz h5 h1 h2 ((rc_at hj).trans (congrArg some h6)) (fun q hq => (h7 q hq).2) (fun _ _ => ?_) (fun w => absurd w hm))
        intros
        refine x_aload_n dL_law_1562 rfl ?_
        refine x_aload_n dL_law_1563 rfl ?_
        refine x_iload_n dL_law_1564 rfl ?_
        refine x_iconst 1 dL_law_1565 (by decide) ?_
        refine x_iadd dL_law_1566 ?_
        refine x_sldE (j := i + 1) dL_law_1567 (nI_add i 1) (by omega) hLL ?_
        refine x_aload_n dL_law_1568 rfl ?_
        refine x_iload_n dL_law_1569 rfl ?_
        refine x_iconst 2 dL_law_1570 (by decide) ?_
        refine x_iadd dL_law_1571 ?_
        refine x_sldE (j := i + 2) dL_law_1572 (nI_add i 2) (by omega) hLL ?_
        rw [ej, ez]
        refine x_callV (as := [_, _]) okX5_judge bX5 rfl rfl q1995 dL_law_1573 (Nat.le_of_ble_eq_true rfl) rfl (Nat.le_of_ble_eq_true rfl) (by show _ ≤ 603072; omega) (by show _ ≤ 7262314; omega) (pX5_judge_row hn hk ho hj hz h1 h3 h2 h4 (fun w => absurd w hm) (fun _ => ?_))
        intros
        rw [ewr]
        refine x_icmp_eq 1712 dL_law_1576 (by decide) (fun _ => ?_) (fun c_ => absurd (rfl) c_)
        exact go_fin (kN := kN) hG ⟨hn, by omega, hLk, hP, hHs, hSi, hSh, hIm, hFx⟩ (by omega) (by omega)
    · refine x_aload_n dL_law_1548 rfl ?_
      refine x_aload_n dL_law_1549 rfl ?_
      refine x_iload_n dL_law_1550 rfl ?_
      refine x_iconst 1 dL_law_1551 (by decide) ?_
      refine x_iadd dL_law_1552 ?_
      refine x_sldE (j := i + 1) dL_law_1553 (nI_add i 1) (by omega) hLL ?_
      refine x_aload_n dL_law_1554 rfl ?_
      refine x_iload_n dL_law_1555 rfl ?_
      refine x_iconst 2 dL_law_1556 (by decide) ?_
      refine x_iadd dL_law_1557 ?_
      refine x_sldE (j := i + 2) dL_law_1558 (nI_add i 2) (by omega) hLL ?_
      rw [ej, ez]
      refine x_xV (as := [_, _]) oxX0_judge bX0 rfl rfl q1441 dL_law_1559 (Nat.le_of_ble_eq_true rfl) rfl (Nat.le_of_ble_eq_true rfl) (by show _ ≤ 603072; omega) (by show _ ≤ 7262314; omega) (pX0_judge_l hj hz h3 (hLk x h1).1 ((lc_at (by omega)).trans (congrArg some (hLk x h1).2.2.2)) (fun _ => ?_))
      intros
      refine x_aload_n dL_law_1562 rfl ?_
      refine x_aload_n dL_law_1563 rfl ?_
      refine x_iload_n dL_law_1564 rfl ?_
      refine x_iconst 1 dL_law_1565 (by decide) ?_
      refine x_iadd dL_law_1566 ?_
      refine x_sldE (j := i + 1) dL_law_1567 (nI_add i 1) (by omega) hLL ?_
      refine x_aload_n dL_law_1568 rfl ?_
      refine x_iload_n dL_law_1569 rfl ?_
      refine x_iconst 2 dL_law_1570 (by decide) ?_
      refine x_iadd dL_law_1571 ?_
      refine x_sldE (j := i + 2) dL_law_1572 (nI_add i 2) (by omega) hLL ?_
      rw [ej, ez]
      refine x_callV (as := [_, _]) okX5_judge bX5 rfl rfl q1995 dL_law_1573 (Nat.le_of_ble_eq_true rfl) rfl (Nat.le_of_ble_eq_true rfl) (by show _ ≤ 603072; omega) (by show _ ≤ 7262314; omega) (pX5_judge_look hj hz (by omega) h2 ?_)
      intros
      refine x_icmp_eq 1712 dL_law_1576 (by decide) (fun _ => ?_) (fun c_ => absurd (rfl) c_)
      exact go_fin (kN := kN) hG ⟨hn, by omega, hLk, hP, hHs, hSi, hSh, hIm, hFx⟩ (by omega) (by omega)
  · refine x_aload_n dL_law_1548 rfl ?_
    refine x_aload_n dL_law_1549 rfl ?_
    refine x_iload_n dL_law_1550 rfl ?_
    refine x_iconst 1 dL_law_1551 (by decide) ?_
    refine x_iadd dL_law_1552 ?_
    refine x_sldE (j := i + 1) dL_law_1553 (nI_add i 1) (by omega) hLL ?_
    refine x_aload_n dL_law_1554 rfl ?_
    refine x_iload_n dL_law_1555 rfl ?_
    refine x_iconst 2 dL_law_1556 (by decide) ?_
    refine x_iadd dL_law_1557 ?_
    refine x_sldE (j := i + 2) dL_law_1558 (nI_add i 2) (by omega) hLL ?_
    refine x_xV (as := [_, _]) oxX0_judge bX0 rfl rfl q1441 dL_law_1559 (Nat.le_of_ble_eq_true rfl) rfl (Nat.le_of_ble_eq_true rfl) (by show _ ≤ 603072; omega) (by show _ ≤ 7262314; omega) (pX0_judge_bad (Bool.not_eq_true _ |>.mp hb) (fun _ => ?_))
    intros
    refine x_aload_n dL_law_1562 rfl ?_
    refine x_aload_n dL_law_1563 rfl ?_
    refine x_iload_n dL_law_1564 rfl ?_
    refine x_iconst 1 dL_law_1565 (by decide) ?_
    refine x_iadd dL_law_1566 ?_
    refine x_sldE (j := i + 1) dL_law_1567 (nI_add i 1) (by omega) hLL ?_
    refine x_aload_n dL_law_1568 rfl ?_
    refine x_iload_n dL_law_1569 rfl ?_
    refine x_iconst 2 dL_law_1570 (by decide) ?_
    refine x_iadd dL_law_1571 ?_
    refine x_sldE (j := i + 2) dL_law_1572 (nI_add i 2) (by omega) hLL ?_
    refine x_callV (as := [_, _]) okX5_judge bX5 rfl rfl q1995 dL_law_1573 (Nat.le_of_ble_eq_true rfl) rfl (Nat.le_of_ble_eq_true rfl) (by show _ ≤ 603072; omega) (by show _ ≤ 7262314; omega) (pX5_judge_bad (Bool.not_eq_true _ |>.mp hb) ?_)
    intros
    refine x_icmp_eq 1712 dL_law_1576 (by decide) (fun _ => ?_) (fun c_ => absurd (rfl) c_)
    exact go_fin (kN := kN) hG ⟨hn, by omega, hLk, hP, hHs, hSi, hSh, hIm, hFx⟩ (by omega) (by omega)
