set_option maxRecDepth 100000
/-! the law's cases (printed by gen/ops.py) -/
theorem und0 {c : Nat} (h : c < 6) : undB (nI c) (nI 0) = true := by
  have : ∀ c, c < 6 → undB (nI c) (nI 0) = true := by decide
  exact this c h
theorem law_6 {L : Nat} {xs : Nat → Int32} {k i ce sl : Nat} {h : AHp} (hi : i + 6 ≤ L) (hLL : L < 1000) (hce : ce ≤ 593672) (hsl : sl ≤ 7149314) (hC : Can k h) (hG : GoL L xs k i ce sl) : RchX (ScP L xs) JL ce sl 521 [some (.ref 4), some (.ref 1), some (.ref 0), some (.int (nI i))] [] h := by
  obtain ⟨th, kd, ow, ag, lk, co, sh, hs, tp, hd, rl, ro, rf, ol, ah, tr, od, tk, fo, wi, ou, ge, mo, ev, se, fr, to, tn, va, im, lo, iv, tP, tL, tA, tK, tC, tS, tH, tN, tE, tZ, tf, mP, mf, eP, eT, eF, ef, eg, ew, rx, gx, wx, hv, rc, ic, pf, lc, n, t, kN, rfl, hcp⟩ := hC
  obtain ⟨hn, htk, hLk, hP, hHs, hSi, hSh, hIm, hFx⟩ := hcp
  have hLI := lkI_of hn hLk
  obtain ⟨hk, ho⟩ := lkH_of hLk
  have hNn := nl_none n
  by_cases hb : (inB (xs (i + 1)) 0 7 && inB (xs (i + 2)) 0 5) = true
  · have hb2 := hb
    rw [Bool.and_eq_true] at hb2
    obtain ⟨j, hj, ej⟩ : ∃ j, j < 8 ∧ xs (i + 1) = nI j := inB_m (m := 8) hb2.1 (by omega)
    obtain ⟨q, hq, eq⟩ : ∃ q, q < 6 ∧ xs (i + 2) = nI q := inB_m (m := 6) hb2.2 (by omega)
    rcases hSh j hj with ⟨h1, h2⟩ | ⟨kk, m, f, h1, h2, h3, h4, h5, h6, h7⟩ | ⟨x, h1, h2, h3⟩
    · refine x_aload_n dL_law_521 rfl ?_
      refine x_aload_n dL_law_522 rfl ?_
      refine x_iload_n dL_law_523 rfl ?_
      refine x_iconst 1 dL_law_524 (by decide) ?_
      refine x_iadd dL_law_525 ?_
      refine x_sldE (j := i + 1) dL_law_526 (nI_add i 1) (by omega) hLL ?_
      refine x_aload_n dL_law_527 rfl ?_
      refine x_iload_n dL_law_528 rfl ?_
      refine x_iconst 2 dL_law_529 (by decide) ?_
      refine x_iadd dL_law_530 ?_
      refine x_sldE (j := i + 2) dL_law_531 (nI_add i 2) (by omega) hLL ?_
      rw [ej, eq]
      refine x_xV (as := [_, _]) oxX0_says bX0 rfl rfl q524 dL_law_532 (Nat.le_of_ble_eq_true rfl) rfl (Nat.le_of_ble_eq_true rfl) (by show _ ≤ 603072; omega) (by show _ ≤ 7262314; omega) (pX0_says_0 hj hq h2 (fun _ => ?_))
      intros
      refine x_aload_n dL_law_535 rfl ?_
      refine x_aload_n dL_law_536 rfl ?_
      refine x_iload_n dL_law_537 rfl ?_
      refine x_iconst 1 dL_law_538 (by decide) ?_
      refine x_iadd dL_law_539 ?_
      refine x_sldE (j := i + 1) dL_law_540 (nI_add i 1) (by omega) hLL ?_
      refine x_aload_n dL_law_541 rfl ?_
      refine x_iload_n dL_law_542 rfl ?_
      refine x_iconst 2 dL_law_543 (by decide) ?_
      refine x_iadd dL_law_544 ?_
      refine x_sldE (j := i + 2) dL_law_545 (nI_add i 2) (by omega) hLL ?_
      rw [ej]
      refine x_callV (as := [_, _]) okX5_says bX5 rfl rfl q1672 dL_law_546 (Nat.le_of_ble_eq_true rfl) rfl (Nat.le_of_ble_eq_true rfl) (by show _ ≤ 603072; omega) (by show _ ≤ 7262314; omega) (pX5_says_none hj hb2.2 h1 ?_)
      intros
      refine x_icmp_eq 1712 dL_law_549 (by decide) (fun _ => ?_) (fun c_ => absurd (rfl) c_)
      exact go_fin (kN := kN) hG ⟨hn, by omega, hLk, hP, hHs, hSi, hSh, hIm, hFx⟩ (by omega) (by omega)
    · refine x_aload_n dL_law_521 rfl ?_
      refine x_aload_n dL_law_522 rfl ?_
      refine x_iload_n dL_law_523 rfl ?_
      refine x_iconst 1 dL_law_524 (by decide) ?_
      refine x_iadd dL_law_525 ?_
      refine x_sldE (j := i + 1) dL_law_526 (nI_add i 1) (by omega) hLL ?_
      refine x_aload_n dL_law_527 rfl ?_
      refine x_iload_n dL_law_528 rfl ?_
      refine x_iconst 2 dL_law_529 (by decide) ?_
      refine x_iadd dL_law_530 ?_
      refine x_sldE (j := i + 2) dL_law_531 (nI_add i 2) (by omega) hLL ?_
      rw [ej, eq]
      refine x_xV (as := [_, _]) oxX0_says bX0 rfl rfl q524 dL_law_532 (Nat.le_of_ble_eq_true rfl) rfl (Nat.le_of_ble_eq_true rfl) (by show _ ≤ 603072; omega) (by show _ ≤ 7262314; omega) (pX0_says_r hj hq h5 ((rc_at hj).trans (congrArg some h6)) (fun _ => ?_))
      intros
      refine x_aload_n dL_law_535 rfl ?_
      refine x_aload_n dL_law_536 rfl ?_
      refine x_iload_n dL_law_537 rfl ?_
      refine x_iconst 1 dL_law_538 (by decide) ?_
      refine x_iadd dL_law_539 ?_
      refine x_sldE (j := i + 1) dL_law_540 (nI_add i 1) (by omega) hLL ?_
      refine x_aload_n dL_law_541 rfl ?_
      refine x_iload_n dL_law_542 rfl ?_
      refine x_iconst 2 dL_law_543 (by decide) ?_
      refine x_iadd dL_law_544 ?_
      refine x_sldE (j := i + 2) dL_law_545 (nI_add i 2) (by omega) hLL ?_
      rw [ej]
      refine x_callV (as := [_, _]) okX5_says bX5 rfl rfl q1672 dL_law_546 (Nat.le_of_ble_eq_true rfl) rfl (Nat.le_of_ble_eq_true rfl) (by show _ ≤ 603072; omega) (by show _ ≤ 7262314; omega) (pX5_says_row hj hb2.2 h1 h3 ?_)
      intros
      refine x_icmp_eq 1712 dL_law_549 (by decide) (fun _ => ?_) (fun c_ => absurd (rfl) c_)
      exact go_fin (kN := kN) hG ⟨hn, by omega, hLk, hP, hHs, hSi, hSh, hIm, hFx⟩ (by omega) (by omega)
    · have ekd := (hk x h1).1
      by_cases hu : undB (nI (kN x)) (nI q) = true
      · have hu2 : undB (kd x) (xs (i + 2)) = true := by rw [ekd, eq]; exact hu
        by_cases q0 : q = 0
        · have e0 : xs (i + 2) = 0 := by rw [eq, q0]; rfl
          refine x_aload_n dL_law_521 rfl ?_
          refine x_aload_n dL_law_522 rfl ?_
          refine x_iload_n dL_law_523 rfl ?_
          refine x_iconst 1 dL_law_524 (by decide) ?_
          refine x_iadd dL_law_525 ?_
          refine x_sldE (j := i + 1) dL_law_526 (nI_add i 1) (by omega) hLL ?_
          refine x_aload_n dL_law_527 rfl ?_
          refine x_iload_n dL_law_528 rfl ?_
          refine x_iconst 2 dL_law_529 (by decide) ?_
          refine x_iadd dL_law_530 ?_
          refine x_sldE (j := i + 2) dL_law_531 (nI_add i 2) (by omega) hLL ?_
          rw [ej, eq]
          refine x_xV (as := [_, _]) oxX0_says bX0 rfl rfl q524 dL_law_532 (Nat.le_of_ble_eq_true rfl) rfl (Nat.le_of_ble_eq_true rfl) (by show _ ≤ 603072; omega) (by show _ ≤ 7262314; omega) (pX0_says_l hn hLI hP hj hq h3 (hLk x h1).1 (by omega) (fun _ => (lc_at (by omega)).trans (congrArg some (hLk x h1).2.2.2)) (fun z => absurd (hu.symm.trans z) (by decide)) (fun _ => ?_) (fun _ z => absurd q0 z))
          intros
          refine x_aload_n dL_law_535 rfl ?_
          refine x_aload_n dL_law_536 rfl ?_
          refine x_iload_n dL_law_537 rfl ?_
          refine x_iconst 1 dL_law_538 (by decide) ?_
          refine x_iadd dL_law_539 ?_
          refine x_sldE (j := i + 1) dL_law_540 (nI_add i 1) (by omega) hLL ?_
          refine x_aload_n dL_law_541 rfl ?_
          refine x_iload_n dL_law_542 rfl ?_
          refine x_iconst 2 dL_law_543 (by decide) ?_
          refine x_iadd dL_law_544 ?_
          refine x_sldE (j := i + 2) dL_law_545 (nI_add i 2) (by omega) hLL ?_
          rw [ej]
          refine x_callV (as := [_, _]) okX5_says bX5 rfl rfl q1672 dL_law_546 (Nat.le_of_ble_eq_true rfl) rfl (Nat.le_of_ble_eq_true rfl) (by show _ ≤ 603072; omega) (by show _ ≤ 7262314; omega) (pX5_says_look hj hb2.2 h1 hn hk ho h2 (fun z => absurd (hu2.symm.trans z) (by decide)) (fun _ _ => ?_) (fun _ z => absurd e0 z))
          intros
          refine x_icmp_eq 1712 dL_law_549 (by decide) (fun _ => ?_) (fun c_ => absurd (rfl) c_)
          exact go_fin (kN := kN) hG ⟨hn, by omega, hLk, hP, hHs, hSi, hSh, hIm, hFx⟩ (by omega) (by omega)
        · have n0 : ¬ xs (i + 2) = 0 := fun z => q0 ((nI_eq (b := 0) (by omega) (by omega)).mp (eq.symm.trans z))
          refine x_aload_n dL_law_521 rfl ?_
          refine x_aload_n dL_law_522 rfl ?_
          refine x_iload_n dL_law_523 rfl ?_
          refine x_iconst 1 dL_law_524 (by decide) ?_
          refine x_iadd dL_law_525 ?_
          refine x_sldE (j := i + 1) dL_law_526 (nI_add i 1) (by omega) hLL ?_
          refine x_aload_n dL_law_527 rfl ?_
          refine x_iload_n dL_law_528 rfl ?_
          refine x_iconst 2 dL_law_529 (by decide) ?_
          refine x_iadd dL_law_530 ?_
          refine x_sldE (j := i + 2) dL_law_531 (nI_add i 2) (by omega) hLL ?_
          rw [ej, eq]
          refine x_xV (as := [_, _]) oxX0_says bX0 rfl rfl q524 dL_law_532 (Nat.le_of_ble_eq_true rfl) rfl (Nat.le_of_ble_eq_true rfl) (by show _ ≤ 603072; omega) (by show _ ≤ 7262314; omega) (pX0_says_l hn hLI hP hj hq h3 (hLk x h1).1 (by omega) (fun _ => (lc_at (by omega)).trans (congrArg some (hLk x h1).2.2.2)) (fun z => absurd (hu.symm.trans z) (by decide)) (fun z => absurd z q0) (fun _ _ => ?_))
          intros
          refine x_aload_n dL_law_535 rfl ?_
          refine x_aload_n dL_law_536 rfl ?_
          refine x_iload_n dL_law_537 rfl ?_
          refine x_iconst 1 dL_law_538 (by decide) ?_
          refine x_iadd dL_law_539 ?_
          refine x_sldE (j := i + 1) dL_law_540 (nI_add i 1) (by omega) hLL ?_
          refine x_aload_n dL_law_541 rfl ?_
          refine x_iload_n dL_law_542 rfl ?_
          refine x_iconst 2 dL_law_543 (by decide) ?_
          refine x_iadd dL_law_544 ?_
          refine x_sldE (j := i + 2) dL_law_545 (nI_add i 2) (by omega) hLL ?_
          rw [ej]
          refine x_callV (as := [_, _]) okX5_says bX5 rfl rfl q1672 dL_law_546 (Nat.le_of_ble_eq_true rfl) rfl (Nat.le_of_ble_eq_true rfl) (by show _ ≤ 603072; omega) (by show _ ≤ 7262314; omega) (pX5_says_look hj hb2.2 h1 hn hk ho h2 (fun z => absurd (hu2.symm.trans z) (by decide)) (fun _ z => absurd z n0) (fun _ _ => ?_))
          intros
          refine x_icmp_eq 1712 dL_law_549 (by decide) (fun _ => ?_) (fun c_ => absurd (rfl) c_)
          exact go_fin (kN := kN) hG ⟨hn, by omega, hLk, hP, hHs, hSi, hSh, hIm, hFx⟩ (by omega) (by omega)
      · have hu2 : ¬ undB (kd x) (xs (i + 2)) = true := by rw [ekd, eq]; exact hu
        refine x_aload_n dL_law_521 rfl ?_
        refine x_aload_n dL_law_522 rfl ?_
        refine x_iload_n dL_law_523 rfl ?_
        refine x_iconst 1 dL_law_524 (by decide) ?_
        refine x_iadd dL_law_525 ?_
        refine x_sldE (j := i + 1) dL_law_526 (nI_add i 1) (by omega) hLL ?_
        refine x_aload_n dL_law_527 rfl ?_
        refine x_iload_n dL_law_528 rfl ?_
        refine x_iconst 2 dL_law_529 (by decide) ?_
        refine x_iadd dL_law_530 ?_
        refine x_sldE (j := i + 2) dL_law_531 (nI_add i 2) (by omega) hLL ?_
        rw [ej, eq]
        refine x_xV (as := [_, _]) oxX0_says bX0 rfl rfl q524 dL_law_532 (Nat.le_of_ble_eq_true rfl) rfl (Nat.le_of_ble_eq_true rfl) (by show _ ≤ 603072; omega) (by show _ ≤ 7262314; omega) (pX0_says_l hn hLI hP hj hq h3 (hLk x h1).1 (by omega) (fun _ => (lc_at (by omega)).trans (congrArg some (hLk x h1).2.2.2)) (fun _ _ => ?_) (fun z => absurd (by rw [z]; exact und0 (hLk x h1).1) hu) (fun z _ => absurd z hu))
        intros
        refine x_aload_n dL_law_535 rfl ?_
        refine x_aload_n dL_law_536 rfl ?_
        refine x_iload_n dL_law_537 rfl ?_
        refine x_iconst 1 dL_law_538 (by decide) ?_
        refine x_iadd dL_law_539 ?_
        refine x_sldE (j := i + 1) dL_law_540 (nI_add i 1) (by omega) hLL ?_
        refine x_aload_n dL_law_541 rfl ?_
        refine x_iload_n dL_law_542 rfl ?_
        refine x_iconst 2 dL_law_543 (by decide) ?_
        refine x_iadd dL_law_544 ?_
        refine x_sldE (j := i + 2) dL_law_545 (nI_add i 2) (by omega) hLL ?_
        rw [ej]
        refine x_callV (as := [_, _]) okX5_says bX5 rfl rfl q1672 dL_law_546 (Nat.le_of_ble_eq_true rfl) rfl (Nat.le_of_ble_eq_true rfl) (by show _ ≤ 603072; omega) (by show _ ≤ 7262314; omega) (pX5_says_look hj hb2.2 h1 hn hk ho h2 (fun _ => ?_) (fun z _ => absurd z hu2) (fun z _ => absurd z hu2))
        intros
        refine x_icmp_eq 1712 dL_law_549 (by decide) (fun _ => ?_) (fun c_ => absurd (rfl) c_)
        exact go_fin (kN := kN) hG ⟨hn, by omega, hLk, hP, hHs, hSi, hSh, hIm, hFx⟩ (by omega) (by omega)
  · refine x_aload_n dL_law_521 rfl ?_
    refine x_aload_n dL_law_522 rfl ?_
    refine x_iload_n dL_law_523 rfl ?_
    refine x_iconst 1 dL_law_524 (by decide) ?_
    refine x_iadd dL_law_525 ?_
    refine x_sldE (j := i + 1) dL_law_526 (nI_add i 1) (by omega) hLL ?_
    refine x_aload_n dL_law_527 rfl ?_
    refine x_iload_n dL_law_528 rfl ?_
    refine x_iconst 2 dL_law_529 (by decide) ?_
    refine x_iadd dL_law_530 ?_
    refine x_sldE (j := i + 2) dL_law_531 (nI_add i 2) (by omega) hLL ?_
    refine x_xV (as := [_, _]) oxX0_says bX0 rfl rfl q524 dL_law_532 (Nat.le_of_ble_eq_true rfl) rfl (Nat.le_of_ble_eq_true rfl) (by show _ ≤ 603072; omega) (by show _ ≤ 7262314; omega) (pX0_says_bad (Bool.not_eq_true _ |>.mp hb) (fun _ => ?_))
    intros
    refine x_aload_n dL_law_535 rfl ?_
    refine x_aload_n dL_law_536 rfl ?_
    refine x_iload_n dL_law_537 rfl ?_
    refine x_iconst 1 dL_law_538 (by decide) ?_
    refine x_iadd dL_law_539 ?_
    refine x_sldE (j := i + 1) dL_law_540 (nI_add i 1) (by omega) hLL ?_
    refine x_aload_n dL_law_541 rfl ?_
    refine x_iload_n dL_law_542 rfl ?_
    refine x_iconst 2 dL_law_543 (by decide) ?_
    refine x_iadd dL_law_544 ?_
    refine x_sldE (j := i + 2) dL_law_545 (nI_add i 2) (by omega) hLL ?_
    refine x_callV (as := [_, _]) okX5_says bX5 rfl rfl q1672 dL_law_546 (Nat.le_of_ble_eq_true rfl) rfl (Nat.le_of_ble_eq_true rfl) (by show _ ≤ 603072; omega) (by show _ ≤ 7262314; omega) (pX5_says_bad (Bool.not_eq_true _ |>.mp hb) ?_)
    intros
    refine x_icmp_eq 1712 dL_law_549 (by decide) (fun _ => ?_) (fun c_ => absurd (rfl) c_)
    exact go_fin (kN := kN) hG ⟨hn, by omega, hLk, hP, hHs, hSi, hSh, hIm, hFx⟩ (by omega) (by omega)
