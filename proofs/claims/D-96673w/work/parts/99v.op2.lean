set_option maxRecDepth 100000
/-! the law's cases (printed by gen/ops.py) -/
theorem law_35 {L : Nat} {xs : Nat → Int32} {k i ce sl : Nat} {h : AHp} (hi : i + 6 ≤ L) (hLL : L < 1000) (hce : ce ≤ 593672) (hsl : sl ≤ 7149314) (hC : Can k h) (hG : GoL L xs k i ce sl) : RchX (ScP L xs) JL ce sl 1364 [some (.ref 4), some (.ref 1), some (.ref 0), some (.int (nI i))] [] h := by
  obtain ⟨th, kd, ow, ag, lk, co, sh, hs, tp, hd, rl, ro, rf, ol, ah, tr, od, tk, fo, wi, ou, ge, mo, ev, se, fr, to, tn, va, im, lo, iv, tP, tL, tA, tK, tC, tS, tH, tN, tE, tZ, tf, mP, mf, eP, eT, eF, ef, eg, ew, rx, gx, wx, hv, rc, ic, pf, lc, n, t, kN, rfl, hcp⟩ := hC
  obtain ⟨hn, htk, hLk, hP, hHs, hSi, hSh, hIm, hFx⟩ := hcp
  have hLI := lkI_of hn hLk
  obtain ⟨hk, ho⟩ := lkH_of hLk
  have hNn := nl_none n
  by_cases hb : inB (xs (i + 1)) 0 (nI n - 1) = true
  · refine x_aload_n dL_law_1364 rfl ?_
    refine x_aload_n dL_law_1365 rfl ?_
    refine x_iload_n dL_law_1366 rfl ?_
    refine x_iconst 1 dL_law_1367 (by decide) ?_
    refine x_iadd dL_law_1368 ?_
    refine x_sldE (j := i + 1) dL_law_1369 (nI_add i 1) (by omega) hLL ?_
    refine x_callV (as := [_]) okX0_without bX0 rfl rfl q1293 dL_law_1370 (Nat.le_of_ble_eq_true rfl) rfl (Nat.le_of_ble_eq_true rfl) (by show _ ≤ 603072; omega) (by show _ ≤ 7262314; omega) (pX0_without hn hLI hP (fun z => absurd (hb.symm.trans z) (by decide)) (fun j01 hj01 e01 => ?_))
    intros
    refine x_aload_n dL_law_1373 rfl ?_
    refine x_aload_n dL_law_1374 rfl ?_
    refine x_iload_n dL_law_1375 rfl ?_
    refine x_iconst 1 dL_law_1376 (by decide) ?_
    refine x_iadd dL_law_1377 ?_
    refine x_sldE (j := i + 1) dL_law_1378 (nI_add i 1) (by omega) hLL ?_
    refine x_callV (as := [_]) okX5_without bX5 rfl rfl q1911 dL_law_1379 (Nat.le_of_ble_eq_true rfl) rfl (Nat.le_of_ble_eq_true rfl) (by show _ ≤ 603072; omega) (by show _ ≤ 7262314; omega) (pX5_without hn hk ho (fun z => absurd (hb.symm.trans z) (by decide)) (fun j02 hj02 e02 => ?_))
    intros
    obtain rfl := nJ (by omega) (by omega) e01 e02
    refine x_icmp_eq 1712 dL_law_1382 (by decide) (fun _ => ?_) (fun c_ => absurd (rfl) c_)
    exact go_fin (kN := kN) hG ⟨hn, by omega, hLk, hP, hHs, hSi, hSh, hIm, hFx⟩ (by omega) (by omega)
  · refine x_aload_n dL_law_1364 rfl ?_
    refine x_aload_n dL_law_1365 rfl ?_
    refine x_iload_n dL_law_1366 rfl ?_
    refine x_iconst 1 dL_law_1367 (by decide) ?_
    refine x_iadd dL_law_1368 ?_
    refine x_sldE (j := i + 1) dL_law_1369 (nI_add i 1) (by omega) hLL ?_
    refine x_callV (as := [_]) okX0_without bX0 rfl rfl q1293 dL_law_1370 (Nat.le_of_ble_eq_true rfl) rfl (Nat.le_of_ble_eq_true rfl) (by show _ ≤ 603072; omega) (by show _ ≤ 7262314; omega) (pX0_without hn hLI hP (fun _ => ?_) (fun j01 hj01 e01 => absurd (by rw [inL hj01 hn e01] <;> rfl) hb))
    intros
    refine x_aload_n dL_law_1373 rfl ?_
    refine x_aload_n dL_law_1374 rfl ?_
    refine x_iload_n dL_law_1375 rfl ?_
    refine x_iconst 1 dL_law_1376 (by decide) ?_
    refine x_iadd dL_law_1377 ?_
    refine x_sldE (j := i + 1) dL_law_1378 (nI_add i 1) (by omega) hLL ?_
    refine x_callV (as := [_]) okX5_without bX5 rfl rfl q1911 dL_law_1379 (Nat.le_of_ble_eq_true rfl) rfl (Nat.le_of_ble_eq_true rfl) (by show _ ≤ 603072; omega) (by show _ ≤ 7262314; omega) (pX5_without hn hk ho (fun _ => ?_) (fun j02 hj02 e02 => absurd (by rw [inL hj02 hn e02] <;> rfl) hb))
    intros
    refine x_icmp_eq 1712 dL_law_1382 (by decide) (fun _ => ?_) (fun c_ => absurd (rfl) c_)
    exact go_fin (kN := kN) hG ⟨hn, by omega, hLk, hP, hHs, hSi, hSh, hIm, hFx⟩ (by omega) (by omega)
theorem law_37 {L : Nat} {xs : Nat → Int32} {k i ce sl : Nat} {h : AHp} (hi : i + 6 ≤ L) (hLL : L < 1000) (hce : ce ≤ 593672) (hsl : sl ≤ 7149314) (hC : Can k h) (hG : GoL L xs k i ce sl) : RchX (ScP L xs) JL ce sl 1420 [some (.ref 4), some (.ref 1), some (.ref 0), some (.int (nI i))] [] h := by
  obtain ⟨th, kd, ow, ag, lk, co, sh, hs, tp, hd, rl, ro, rf, ol, ah, tr, od, tk, fo, wi, ou, ge, mo, ev, se, fr, to, tn, va, im, lo, iv, tP, tL, tA, tK, tC, tS, tH, tN, tE, tZ, tf, mP, mf, eP, eT, eF, ef, eg, ew, rx, gx, wx, hv, rc, ic, pf, lc, n, t, kN, rfl, hcp⟩ := hC
  obtain ⟨hn, htk, hLk, hP, hHs, hSi, hSh, hIm, hFx⟩ := hcp
  have hLI := lkI_of hn hLk
  obtain ⟨hk, ho⟩ := lkH_of hLk
  have hNn := nl_none n
  refine x_aload_n dL_law_1420 rfl ?_
  refine x_callV (as := []) okX0_bestPair bX0 rfl rfl q1310 dL_law_1421 (Nat.le_of_ble_eq_true rfl) rfl (Nat.le_of_ble_eq_true rfl) (by show _ ≤ 603072; omega) (by show _ ≤ 7262314; omega) (pX0_bestPair hn hLI hNn hP ?_)
  intros
  refine x_aload_n dL_law_1424 rfl ?_
  refine x_callV (as := []) okX5_bestPair bX5 rfl rfl q1923 dL_law_1425 (Nat.le_of_ble_eq_true rfl) rfl (Nat.le_of_ble_eq_true rfl) (by show _ ≤ 603072; omega) (by show _ ≤ 7262314; omega) (pX5_bestPair hn hk ho ?_)
  intros
  refine x_icmp_eq 1712 dL_law_1428 (by decide) (fun _ => ?_) (fun c_ => absurd (rfl) c_)
  exact go_fin (kN := kN) hG ⟨hn, by omega, hLk, hP, hHs, hSi, hSh, hIm, hFx⟩ (by omega) (by omega)
theorem law_38 {L : Nat} {xs : Nat → Int32} {k i ce sl : Nat} {h : AHp} (hi : i + 6 ≤ L) (hLL : L < 1000) (hce : ce ≤ 593672) (hsl : sl ≤ 7149314) (hC : Can k h) (hG : GoL L xs k i ce sl) : RchX (ScP L xs) JL ce sl 1433 [some (.ref 4), some (.ref 1), some (.ref 0), some (.int (nI i))] [] h := by
  obtain ⟨th, kd, ow, ag, lk, co, sh, hs, tp, hd, rl, ro, rf, ol, ah, tr, od, tk, fo, wi, ou, ge, mo, ev, se, fr, to, tn, va, im, lo, iv, tP, tL, tA, tK, tC, tS, tH, tN, tE, tZ, tf, mP, mf, eP, eT, eF, ef, eg, ew, rx, gx, wx, hv, rc, ic, pf, lc, n, t, kN, rfl, hcp⟩ := hC
  obtain ⟨hn, htk, hLk, hP, hHs, hSi, hSh, hIm, hFx⟩ := hcp
  have hLI := lkI_of hn hLk
  obtain ⟨hk, ho⟩ := lkH_of hLk
  have hNn := nl_none n
  by_cases hb : inB (xs (i + 1)) 0 (nI n - 1) = true
  · refine x_aload_n dL_law_1433 rfl ?_
    refine x_aload_n dL_law_1434 rfl ?_
    refine x_iload_n dL_law_1435 rfl ?_
    refine x_iconst 1 dL_law_1436 (by decide) ?_
    refine x_iadd dL_law_1437 ?_
    refine x_sldE (j := i + 1) dL_law_1438 (nI_add i 1) (by omega) hLL ?_
    refine x_callV (as := [_]) okX0_oldest bX0 rfl rfl q1314 dL_law_1439 (Nat.le_of_ble_eq_true rfl) rfl (Nat.le_of_ble_eq_true rfl) (by show _ ≤ 603072; omega) (by show _ ≤ 7262314; omega) (pX0_oldest hn hLI hNn hP (fun z => absurd (hb.symm.trans z) (by decide)) (fun j01 hj01 e01 => ?_))
    intros
    refine x_aload_n dL_law_1442 rfl ?_
    refine x_aload_n dL_law_1443 rfl ?_
    refine x_iload_n dL_law_1444 rfl ?_
    refine x_iconst 1 dL_law_1445 (by decide) ?_
    refine x_iadd dL_law_1446 ?_
    refine x_sldE (j := i + 1) dL_law_1447 (nI_add i 1) (by omega) hLL ?_
    refine x_callV (as := [_]) okX5_oldest bX5 rfl rfl q1931 dL_law_1448 (Nat.le_of_ble_eq_true rfl) rfl (Nat.le_of_ble_eq_true rfl) (by show _ ≤ 603072; omega) (by show _ ≤ 7262314; omega) (pX5_oldest hn hk ho (fun z => absurd (hb.symm.trans z) (by decide)) (fun j02 hj02 e02 => ?_))
    intros
    obtain rfl := nJ (by omega) (by omega) e01 e02
    refine x_icmp_eq 1712 dL_law_1451 (by decide) (fun _ => ?_) (fun c_ => absurd (rfl) c_)
    exact go_fin (kN := kN) hG ⟨hn, by omega, hLk, hP, hHs, hSi, hSh, hIm, hFx⟩ (by omega) (by omega)
  · refine x_aload_n dL_law_1433 rfl ?_
    refine x_aload_n dL_law_1434 rfl ?_
    refine x_iload_n dL_law_1435 rfl ?_
    refine x_iconst 1 dL_law_1436 (by decide) ?_
    refine x_iadd dL_law_1437 ?_
    refine x_sldE (j := i + 1) dL_law_1438 (nI_add i 1) (by omega) hLL ?_
    refine x_callV (as := [_]) okX0_oldest bX0 rfl rfl q1314 dL_law_1439 (Nat.le_of_ble_eq_true rfl) rfl (Nat.le_of_ble_eq_true rfl) (by show _ ≤ 603072; omega) (by show _ ≤ 7262314; omega) (pX0_oldest hn hLI hNn hP (fun _ => ?_) (fun j01 hj01 e01 => absurd (by rw [inL hj01 hn e01] <;> rfl) hb))
    intros
    refine x_aload_n dL_law_1442 rfl ?_
    refine x_aload_n dL_law_1443 rfl ?_
    refine x_iload_n dL_law_1444 rfl ?_
    refine x_iconst 1 dL_law_1445 (by decide) ?_
    refine x_iadd dL_law_1446 ?_
    refine x_sldE (j := i + 1) dL_law_1447 (nI_add i 1) (by omega) hLL ?_
    refine x_callV (as := [_]) okX5_oldest bX5 rfl rfl q1931 dL_law_1448 (Nat.le_of_ble_eq_true rfl) rfl (Nat.le_of_ble_eq_true rfl) (by show _ ≤ 603072; omega) (by show _ ≤ 7262314; omega) (pX5_oldest hn hk ho (fun _ => ?_) (fun j02 hj02 e02 => absurd (by rw [inL hj02 hn e02] <;> rfl) hb))
    intros
    refine x_icmp_eq 1712 dL_law_1451 (by decide) (fun _ => ?_) (fun c_ => absurd (rfl) c_)
    exact go_fin (kN := kN) hG ⟨hn, by omega, hLk, hP, hHs, hSi, hSh, hIm, hFx⟩ (by omega) (by omega)
theorem law_39 {L : Nat} {xs : Nat → Int32} {k i ce sl : Nat} {h : AHp} (hi : i + 6 ≤ L) (hLL : L < 1000) (hce : ce ≤ 593672) (hsl : sl ≤ 7149314) (hC : Can k h) (hG : GoL L xs k i ce sl) : RchX (ScP L xs) JL ce sl 1456 [some (.ref 4), some (.ref 1), some (.ref 0), some (.int (nI i))] [] h := by
  obtain ⟨th, kd, ow, ag, lk, co, sh, hs, tp, hd, rl, ro, rf, ol, ah, tr, od, tk, fo, wi, ou, ge, mo, ev, se, fr, to, tn, va, im, lo, iv, tP, tL, tA, tK, tC, tS, tH, tN, tE, tZ, tf, mP, mf, eP, eT, eF, ef, eg, ew, rx, gx, wx, hv, rc, ic, pf, lc, n, t, kN, rfl, hcp⟩ := hC
  obtain ⟨hn, htk, hLk, hP, hHs, hSi, hSh, hIm, hFx⟩ := hcp
  have hLI := lkI_of hn hLk
  obtain ⟨hk, ho⟩ := lkH_of hLk
  have hNn := nl_none n
  by_cases hb : (inB (xs (i + 1)) 0 (allS n) && inB (xs (i + 2)) 0 (allS n)) = true
  · refine x_aload_n dL_law_1456 rfl ?_
    refine x_aload_n dL_law_1457 rfl ?_
    refine x_iload_n dL_law_1458 rfl ?_
    refine x_iconst 1 dL_law_1459 (by decide) ?_
    refine x_iadd dL_law_1460 ?_
    refine x_sldE (j := i + 1) dL_law_1461 (nI_add i 1) (by omega) hLL ?_
    refine x_aload_n dL_law_1462 rfl ?_
    refine x_iload_n dL_law_1463 rfl ?_
    refine x_iconst 2 dL_law_1464 (by decide) ?_
    refine x_iadd dL_law_1465 ?_
    refine x_sldE (j := i + 2) dL_law_1466 (nI_add i 2) (by omega) hLL ?_
    refine x_callV (as := [_, _]) okX0_twice bX0 rfl rfl q1318 dL_law_1467 (Nat.le_of_ble_eq_true rfl) rfl (Nat.le_of_ble_eq_true rfl) (by show _ ≤ 603072; omega) (by show _ ≤ 7262314; omega) (pX0_twice hn hLI hP (fun z => absurd (hb.symm.trans z) (by decide)) (fun b01 b11 => ?_))
    intros
    refine x_aload_n dL_law_1470 rfl ?_
    refine x_aload_n dL_law_1471 rfl ?_
    refine x_iload_n dL_law_1472 rfl ?_
    refine x_iconst 1 dL_law_1473 (by decide) ?_
    refine x_iadd dL_law_1474 ?_
    refine x_sldE (j := i + 1) dL_law_1475 (nI_add i 1) (by omega) hLL ?_
    refine x_aload_n dL_law_1476 rfl ?_
    refine x_iload_n dL_law_1477 rfl ?_
    refine x_iconst 2 dL_law_1478 (by decide) ?_
    refine x_iadd dL_law_1479 ?_
    refine x_sldE (j := i + 2) dL_law_1480 (nI_add i 2) (by omega) hLL ?_
    refine x_callV (as := [_, _]) okX5_twice bX5 rfl rfl q1935 dL_law_1481 (Nat.le_of_ble_eq_true rfl) rfl (Nat.le_of_ble_eq_true rfl) (by show _ ≤ 603072; omega) (by show _ ≤ 7262314; omega) (pX5_twice hn hk ho (fun z => absurd (hb.symm.trans z) (by decide)) (fun b02 b12 => ?_))
    intros
    refine x_icmp_eq 1712 dL_law_1484 (by decide) (fun _ => ?_) (fun c_ => absurd (rfl) c_)
    exact go_fin (kN := kN) hG ⟨hn, by omega, hLk, hP, hHs, hSi, hSh, hIm, hFx⟩ (by omega) (by omega)
  · refine x_aload_n dL_law_1456 rfl ?_
    refine x_aload_n dL_law_1457 rfl ?_
    refine x_iload_n dL_law_1458 rfl ?_
    refine x_iconst 1 dL_law_1459 (by decide) ?_
    refine x_iadd dL_law_1460 ?_
    refine x_sldE (j := i + 1) dL_law_1461 (nI_add i 1) (by omega) hLL ?_
    refine x_aload_n dL_law_1462 rfl ?_
    refine x_iload_n dL_law_1463 rfl ?_
    refine x_iconst 2 dL_law_1464 (by decide) ?_
    refine x_iadd dL_law_1465 ?_
    refine x_sldE (j := i + 2) dL_law_1466 (nI_add i 2) (by omega) hLL ?_
    refine x_callV (as := [_, _]) okX0_twice bX0 rfl rfl q1318 dL_law_1467 (Nat.le_of_ble_eq_true rfl) rfl (Nat.le_of_ble_eq_true rfl) (by show _ ≤ 603072; omega) (by show _ ≤ 7262314; omega) (pX0_twice hn hLI hP (fun _ => ?_) (fun b01 b11 => absurd (by rw [b01, b11] <;> rfl) hb))
    intros
    refine x_aload_n dL_law_1470 rfl ?_
    refine x_aload_n dL_law_1471 rfl ?_
    refine x_iload_n dL_law_1472 rfl ?_
    refine x_iconst 1 dL_law_1473 (by decide) ?_
    refine x_iadd dL_law_1474 ?_
    refine x_sldE (j := i + 1) dL_law_1475 (nI_add i 1) (by omega) hLL ?_
    refine x_aload_n dL_law_1476 rfl ?_
    refine x_iload_n dL_law_1477 rfl ?_
    refine x_iconst 2 dL_law_1478 (by decide) ?_
    refine x_iadd dL_law_1479 ?_
    refine x_sldE (j := i + 2) dL_law_1480 (nI_add i 2) (by omega) hLL ?_
    refine x_callV (as := [_, _]) okX5_twice bX5 rfl rfl q1935 dL_law_1481 (Nat.le_of_ble_eq_true rfl) rfl (Nat.le_of_ble_eq_true rfl) (by show _ ≤ 603072; omega) (by show _ ≤ 7262314; omega) (pX5_twice hn hk ho (fun _ => ?_) (fun b02 b12 => absurd (by rw [b02, b12] <;> rfl) hb))
    intros
    refine x_icmp_eq 1712 dL_law_1484 (by decide) (fun _ => ?_) (fun c_ => absurd (rfl) c_)
    exact go_fin (kN := kN) hG ⟨hn, by omega, hLk, hP, hHs, hSi, hSh, hIm, hFx⟩ (by omega) (by omega)
theorem law_40 {L : Nat} {xs : Nat → Int32} {k i ce sl : Nat} {h : AHp} (hi : i + 6 ≤ L) (hLL : L < 1000) (hce : ce ≤ 593672) (hsl : sl ≤ 7149314) (hC : Can k h) (hG : GoL L xs k i ce sl) : RchX (ScP L xs) JL ce sl 1489 [some (.ref 4), some (.ref 1), some (.ref 0), some (.int (nI i))] [] h := by
  obtain ⟨th, kd, ow, ag, lk, co, sh, hs, tp, hd, rl, ro, rf, ol, ah, tr, od, tk, fo, wi, ou, ge, mo, ev, se, fr, to, tn, va, im, lo, iv, tP, tL, tA, tK, tC, tS, tH, tN, tE, tZ, tf, mP, mf, eP, eT, eF, ef, eg, ew, rx, gx, wx, hv, rc, ic, pf, lc, n, t, kN, rfl, hcp⟩ := hC
  obtain ⟨hn, htk, hLk, hP, hHs, hSi, hSh, hIm, hFx⟩ := hcp
  have hLI := lkI_of hn hLk
  obtain ⟨hk, ho⟩ := lkH_of hLk
  have hNn := nl_none n
  by_cases hb : inB (xs (i + 1)) 0 (allS n) = true
  · refine x_aload_n dL_law_1489 rfl ?_
    refine x_aload_n dL_law_1490 rfl ?_
    refine x_iload_n dL_law_1491 rfl ?_
    refine x_iconst 1 dL_law_1492 (by decide) ?_
    refine x_iadd dL_law_1493 ?_
    refine x_sldE (j := i + 1) dL_law_1494 (nI_add i 1) (by omega) hLL ?_
    refine x_callV (as := [_]) okX0_unlike bX0 rfl rfl q1324 dL_law_1495 (Nat.le_of_ble_eq_true rfl) rfl (Nat.le_of_ble_eq_true rfl) (by show _ ≤ 603072; omega) (by show _ ≤ 7262314; omega) (pX0_unlike hn hLI hP (fun z => absurd (hb.symm.trans z) (by decide)) (fun b01 => ?_))
    intros
    refine x_aload_n dL_law_1498 rfl ?_
    refine x_aload_n dL_law_1499 rfl ?_
    refine x_iload_n dL_law_1500 rfl ?_
    refine x_iconst 1 dL_law_1501 (by decide) ?_
    refine x_iadd dL_law_1502 ?_
    refine x_sldE (j := i + 1) dL_law_1503 (nI_add i 1) (by omega) hLL ?_
    refine x_callV (as := [_]) okX5_unlike bX5 rfl rfl q1939 dL_law_1504 (Nat.le_of_ble_eq_true rfl) rfl (Nat.le_of_ble_eq_true rfl) (by show _ ≤ 603072; omega) (by show _ ≤ 7262314; omega) (pX5_unlike hn hk ho (fun z => absurd (hb.symm.trans z) (by decide)) (fun b02 => ?_))
    intros
    refine x_icmp_eq 1712 dL_law_1507 (by decide) (fun _ => ?_) (fun c_ => absurd (rfl) c_)
    exact go_fin (kN := kN) hG ⟨hn, by omega, hLk, hP, hHs, hSi, hSh, hIm, hFx⟩ (by omega) (by omega)
  · refine x_aload_n dL_law_1489 rfl ?_
    refine x_aload_n dL_law_1490 rfl ?_
    refine x_iload_n dL_law_1491 rfl ?_
    refine x_iconst 1 dL_law_1492 (by decide) ?_
    refine x_iadd dL_law_1493 ?_
    refine x_sldE (j := i + 1) dL_law_1494 (nI_add i 1) (by omega) hLL ?_
    refine x_callV (as := [_]) okX0_unlike bX0 rfl rfl q1324 dL_law_1495 (Nat.le_of_ble_eq_true rfl) rfl (Nat.le_of_ble_eq_true rfl) (by show _ ≤ 603072; omega) (by show _ ≤ 7262314; omega) (pX0_unlike hn hLI hP (fun _ => ?_) (fun b01 => absurd (by rw [b01] <;> rfl) hb))
    intros
    refine x_aload_n dL_law_1498 rfl ?_
    refine x_aload_n dL_law_1499 rfl ?_
    refine x_iload_n dL_law_1500 rfl ?_
    refine x_iconst 1 dL_law_1501 (by decide) ?_
    refine x_iadd dL_law_1502 ?_
    refine x_sldE (j := i + 1) dL_law_1503 (nI_add i 1) (by omega) hLL ?_
    refine x_callV (as := [_]) okX5_unlike bX5 rfl rfl q1939 dL_law_1504 (Nat.le_of_ble_eq_true rfl) rfl (Nat.le_of_ble_eq_true rfl) (by show _ ≤ 603072; omega) (by show _ ≤ 7262314; omega) (pX5_unlike hn hk ho (fun _ => ?_) (fun b02 => absurd (by rw [b02] <;> rfl) hb))
    intros
    refine x_icmp_eq 1712 dL_law_1507 (by decide) (fun _ => ?_) (fun c_ => absurd (rfl) c_)
    exact go_fin (kN := kN) hG ⟨hn, by omega, hLk, hP, hHs, hSi, hSh, hIm, hFx⟩ (by omega) (by omega)
theorem law_41 {L : Nat} {xs : Nat → Int32} {k i ce sl : Nat} {h : AHp} (hi : i + 6 ≤ L) (hLL : L < 1000) (hce : ce ≤ 593672) (hsl : sl ≤ 7149314) (hC : Can k h) (hG : GoL L xs k i ce sl) : RchX (ScP L xs) JL ce sl 1512 [some (.ref 4), some (.ref 1), some (.ref 0), some (.int (nI i))] [] h := by
  obtain ⟨th, kd, ow, ag, lk, co, sh, hs, tp, hd, rl, ro, rf, ol, ah, tr, od, tk, fo, wi, ou, ge, mo, ev, se, fr, to, tn, va, im, lo, iv, tP, tL, tA, tK, tC, tS, tH, tN, tE, tZ, tf, mP, mf, eP, eT, eF, ef, eg, ew, rx, gx, wx, hv, rc, ic, pf, lc, n, t, kN, rfl, hcp⟩ := hC
  obtain ⟨hn, htk, hLk, hP, hHs, hSi, hSh, hIm, hFx⟩ := hcp
  have hLI := lkI_of hn hLk
  obtain ⟨hk, ho⟩ := lkH_of hLk
  have hNn := nl_none n
  by_cases hb : inB (xs (i + 1)) 0 (nI n - 1) = true
  · refine x_aload_n dL_law_1512 rfl ?_
    refine x_aload_n dL_law_1513 rfl ?_
    refine x_iload_n dL_law_1514 rfl ?_
    refine x_iconst 1 dL_law_1515 (by decide) ?_
    refine x_iadd dL_law_1516 ?_
    refine x_sldE (j := i + 1) dL_law_1517 (nI_add i 1) (by omega) hLL ?_
    refine x_callV (as := [_]) okX0_next bX0 rfl rfl q1413 dL_law_1518 (Nat.le_of_ble_eq_true rfl) rfl (Nat.le_of_ble_eq_true rfl) (by show _ ≤ 603072; omega) (by show _ ≤ 7262314; omega) (pX0_next (ou := ou) (ge := ge) hn hLI (fun z => absurd (hb.symm.trans z) (by decide)) (fun j01 hj01 e01 => ?_))
    intros
    refine x_aload_n dL_law_1521 rfl ?_
    refine x_aload_n dL_law_1522 rfl ?_
    refine x_iload_n dL_law_1523 rfl ?_
    refine x_iconst 1 dL_law_1524 (by decide) ?_
    refine x_iadd dL_law_1525 ?_
    refine x_sldE (j := i + 1) dL_law_1526 (nI_add i 1) (by omega) hLL ?_
    refine x_callV (as := [_]) okX5_next_2 bX5 rfl rfl q1967 dL_law_1527 (Nat.le_of_ble_eq_true rfl) rfl (Nat.le_of_ble_eq_true rfl) (by show _ ≤ 603072; omega) (by show _ ≤ 7262314; omega) (pX5_next_2 hn (fun z => absurd (hb.symm.trans z) (by decide)) (fun j02 hj02 e02 => ?_))
    intros
    obtain rfl := nJ (by omega) (by omega) e01 e02
    refine x_icmp_eq 1712 dL_law_1530 (by decide) (fun _ => ?_) (fun c_ => absurd (rfl) c_)
    exact go_fin (kN := kN) hG ⟨hn, by omega, hLk, hP, hHs, hSi, hSh, hIm, hFx⟩ (by omega) (by omega)
  · refine x_aload_n dL_law_1512 rfl ?_
    refine x_aload_n dL_law_1513 rfl ?_
    refine x_iload_n dL_law_1514 rfl ?_
    refine x_iconst 1 dL_law_1515 (by decide) ?_
    refine x_iadd dL_law_1516 ?_
    refine x_sldE (j := i + 1) dL_law_1517 (nI_add i 1) (by omega) hLL ?_
    refine x_callV (as := [_]) okX0_next bX0 rfl rfl q1413 dL_law_1518 (Nat.le_of_ble_eq_true rfl) rfl (Nat.le_of_ble_eq_true rfl) (by show _ ≤ 603072; omega) (by show _ ≤ 7262314; omega) (pX0_next (ou := ou) (ge := ge) hn hLI (fun _ => ?_) (fun j01 hj01 e01 => absurd (by rw [inL hj01 hn e01] <;> rfl) hb))
    intros
    refine x_aload_n dL_law_1521 rfl ?_
    refine x_aload_n dL_law_1522 rfl ?_
    refine x_iload_n dL_law_1523 rfl ?_
    refine x_iconst 1 dL_law_1524 (by decide) ?_
    refine x_iadd dL_law_1525 ?_
    refine x_sldE (j := i + 1) dL_law_1526 (nI_add i 1) (by omega) hLL ?_
    refine x_callV (as := [_]) okX5_next_2 bX5 rfl rfl q1967 dL_law_1527 (Nat.le_of_ble_eq_true rfl) rfl (Nat.le_of_ble_eq_true rfl) (by show _ ≤ 603072; omega) (by show _ ≤ 7262314; omega) (pX5_next_2 hn (fun _ => ?_) (fun j02 hj02 e02 => absurd (by rw [inL hj02 hn e02] <;> rfl) hb))
    intros
    refine x_icmp_eq 1712 dL_law_1530 (by decide) (fun _ => ?_) (fun c_ => absurd (rfl) c_)
    exact go_fin (kN := kN) hG ⟨hn, by omega, hLk, hP, hHs, hSi, hSh, hIm, hFx⟩ (by omega) (by omega)
theorem law_42 {L : Nat} {xs : Nat → Int32} {k i ce sl : Nat} {h : AHp} (hi : i + 6 ≤ L) (hLL : L < 1000) (hce : ce ≤ 593672) (hsl : sl ≤ 7149314) (hC : Can k h) (hG : GoL L xs k i ce sl) : RchX (ScP L xs) JL ce sl 1535 [some (.ref 4), some (.ref 1), some (.ref 0), some (.int (nI i))] [] h := by
  obtain ⟨th, kd, ow, ag, lk, co, sh, hs, tp, hd, rl, ro, rf, ol, ah, tr, od, tk, fo, wi, ou, ge, mo, ev, se, fr, to, tn, va, im, lo, iv, tP, tL, tA, tK, tC, tS, tH, tN, tE, tZ, tf, mP, mf, eP, eT, eF, ef, eg, ew, rx, gx, wx, hv, rc, ic, pf, lc, n, t, kN, rfl, hcp⟩ := hC
  obtain ⟨hn, htk, hLk, hP, hHs, hSi, hSh, hIm, hFx⟩ := hcp
  have hLI := lkI_of hn hLk
  obtain ⟨hk, ho⟩ := lkH_of hLk
  have hNn := nl_none n
  refine x_aload_n dL_law_1535 rfl ?_
  refine x_callV (as := []) okX0_swapped bX0 rfl rfl q1433 dL_law_1536 (Nat.le_of_ble_eq_true rfl) rfl (Nat.le_of_ble_eq_true rfl) (by show _ ≤ 603072; omega) (by show _ ≤ 7262314; omega) (pX0_swapped (ou := ou) (ge := ge) hn hLI ?_)
  intros
  refine x_aload_n dL_law_1539 rfl ?_
  refine x_callV (as := []) okX5_swapped bX5 rfl rfl q1987 dL_law_1540 (Nat.le_of_ble_eq_true rfl) rfl (Nat.le_of_ble_eq_true rfl) (by show _ ≤ 603072; omega) (by show _ ≤ 7262314; omega) (pX5_swapped hn ?_)
  intros
  refine x_icmp_eq 1712 dL_law_1543 (by decide) (fun _ => ?_) (fun c_ => absurd (rfl) c_)
  exact go_fin (kN := kN) hG ⟨hn, by omega, hLk, hP, hHs, hSi, hSh, hIm, hFx⟩ (by omega) (by omega)
theorem law_47 {L : Nat} {xs : Nat → Int32} {k i ce sl : Nat} {h : AHp} (hi : i + 6 ≤ L) (hLL : L < 1000) (hce : ce ≤ 593672) (hsl : sl ≤ 7149314) (hC : Can k h) (hG : GoL L xs k i ce sl) : RchX (ScP L xs) JL ce sl 1640 [some (.ref 4), some (.ref 1), some (.ref 0), some (.int (nI i))] [] h := by
  obtain ⟨th, kd, ow, ag, lk, co, sh, hs, tp, hd, rl, ro, rf, ol, ah, tr, od, tk, fo, wi, ou, ge, mo, ev, se, fr, to, tn, va, im, lo, iv, tP, tL, tA, tK, tC, tS, tH, tN, tE, tZ, tf, mP, mf, eP, eT, eF, ef, eg, ew, rx, gx, wx, hv, rc, ic, pf, lc, n, t, kN, rfl, hcp⟩ := hC
  obtain ⟨hn, htk, hLk, hP, hHs, hSi, hSh, hIm, hFx⟩ := hcp
  have hLI := lkI_of hn hLk
  obtain ⟨hk, ho⟩ := lkH_of hLk
  have hNn := nl_none n
  refine x_aload_n dL_law_1640 rfl ?_
  refine x_aload_n dL_law_1641 rfl ?_
  refine x_iload_n dL_law_1642 rfl ?_
  refine x_iconst 1 dL_law_1643 (by decide) ?_
  refine x_iadd dL_law_1644 ?_
  refine x_sldE (j := i + 1) dL_law_1645 (nI_add i 1) (by omega) hLL ?_
  refine x_callV (as := [_]) okX0_seed bX0 rfl rfl q1489 dL_law_1646 (Nat.le_of_ble_eq_true rfl) rfl (Nat.le_of_ble_eq_true rfl) (by show _ ≤ 603072; omega) (by show _ ≤ 7262314; omega) (pX0_seed ?_)
  intros
  refine x_aload_n dL_law_1649 rfl ?_
  refine x_aload_n dL_law_1650 rfl ?_
  refine x_iload_n dL_law_1651 rfl ?_
  refine x_iconst 1 dL_law_1652 (by decide) ?_
  refine x_iadd dL_law_1653 ?_
  refine x_sldE (j := i + 1) dL_law_1654 (nI_add i 1) (by omega) hLL ?_
  refine x_callV (as := [_]) okX5_seed bX5 rfl rfl q2030 dL_law_1655 (Nat.le_of_ble_eq_true rfl) rfl (Nat.le_of_ble_eq_true rfl) (by show _ ≤ 603072; omega) (by show _ ≤ 7262314; omega) (pX5_seed ?_)
  intros
  refine x_icmp_eq 1712 dL_law_1658 (by decide) (fun _ => ?_) (fun c_ => absurd (rfl) c_)
  exact go_fin (kN := kN) hG ⟨hn, by omega, hLk, hP, hHs, hSi, hSh, hIm, hFx⟩ (by omega) (by omega)
theorem law_12 {L : Nat} {xs : Nat → Int32} {k i ce sl : Nat} {h : AHp} (hi : i + 6 ≤ L) (hLL : L < 1000) (hce : ce ≤ 593672) (hsl : sl ≤ 7149314) (hC : Can k h) (hG : GoL L xs k i ce sl) : RchX (ScP L xs) JL ce sl 755 [some (.ref 4), some (.ref 1), some (.ref 0), some (.int (nI i))] [] h := by
  obtain ⟨th, kd, ow, ag, lk, co, sh, hs, tp, hd, rl, ro, rf, ol, ah, tr, od, tk, fo, wi, ou, ge, mo, ev, se, fr, to, tn, va, im, lo, iv, tP, tL, tA, tK, tC, tS, tH, tN, tE, tZ, tf, mP, mf, eP, eT, eF, ef, eg, ew, rx, gx, wx, hv, rc, ic, pf, lc, n, t, kN, rfl, hcp⟩ := hC
  obtain ⟨hn, htk, hLk, hP, hHs, hSi, hSh, hIm, hFx⟩ := hcp
  have hLI := lkI_of hn hLk
  obtain ⟨hk, ho⟩ := lkH_of hLk
  have hNn := nl_none n
  refine x_aload_n dL_law_755 rfl ?_
  refine x_callV (as := []) okX0_wipe bX0 rfl rfl q983 dL_law_756 (Nat.le_of_ble_eq_true rfl) rfl (Nat.le_of_ble_eq_true rfl) (by show _ ≤ 603072; omega) (by show _ ≤ 7262314; omega) (pX0_wipe ?_)
  intros
  refine x_aload_n dL_law_759 rfl ?_
  refine x_callV (as := []) okX5_wipe bX5 rfl rfl q1756 dL_law_760 (Nat.le_of_ble_eq_true rfl) rfl (Nat.le_of_ble_eq_true rfl) (by show _ ≤ 603072; omega) (by show _ ≤ 7262314; omega) (pX5_wipe ?_)
  intros
  refine x_icmp_eq 1712 dL_law_763 (by decide) (fun _ => ?_) (fun c_ => absurd (rfl) c_)
  exact go_fin (kN := kN) hG ⟨hn, Nat.zero_le _, hLk, hP, hHs, hSi, hSh, hIm, hFx⟩ (by omega) (by omega)
theorem law_14 {L : Nat} {xs : Nat → Int32} {k i ce sl : Nat} {h : AHp} (hi : i + 6 ≤ L) (hLL : L < 1000) (hce : ce ≤ 593672) (hsl : sl ≤ 7149314) (hC : Can k h) (hG : GoL L xs k i ce sl) : RchX (ScP L xs) JL ce sl 781 [some (.ref 4), some (.ref 1), some (.ref 0), some (.int (nI i))] [] h := by
  obtain ⟨th, kd, ow, ag, lk, co, sh, hs, tp, hd, rl, ro, rf, ol, ah, tr, od, tk, fo, wi, ou, ge, mo, ev, se, fr, to, tn, va, im, lo, iv, tP, tL, tA, tK, tC, tS, tH, tN, tE, tZ, tf, mP, mf, eP, eT, eF, ef, eg, ew, rx, gx, wx, hv, rc, ic, pf, lc, n, t, kN, rfl, hcp⟩ := hC
  obtain ⟨hn, htk, hLk, hP, hHs, hSi, hSh, hIm, hFx⟩ := hcp
  have hLI := lkI_of hn hLk
  obtain ⟨hk, ho⟩ := lkH_of hLk
  have hNn := nl_none n
  by_cases hb : inB (xs (i + 1)) 0 11 = true
  · refine x_aload_n dL_law_781 rfl ?_
    refine x_aload_n dL_law_782 rfl ?_
    refine x_iload_n dL_law_783 rfl ?_
    refine x_iconst 1 dL_law_784 (by decide) ?_
    refine x_iadd dL_law_785 ?_
    refine x_sldE (j := i + 1) dL_law_786 (nI_add i 1) (by omega) hLL ?_
    refine x_callV (as := [_]) okX0_sortAt bX0 rfl rfl q1187 dL_law_787 (Nat.le_of_ble_eq_true rfl) rfl (Nat.le_of_ble_eq_true rfl) (by show _ ≤ 603072; omega) (by show _ ≤ 7262314; omega) (pX0_sortAt  (fun z => absurd (hb.symm.trans z) (by decide)) (fun j01 hj01 e01 => ?_))
    intros
    refine x_aload_n dL_law_790 rfl ?_
    refine x_aload_n dL_law_791 rfl ?_
    refine x_iload_n dL_law_792 rfl ?_
    refine x_iconst 1 dL_law_793 (by decide) ?_
    refine x_iadd dL_law_794 ?_
    refine x_sldE (j := i + 1) dL_law_795 (nI_add i 1) (by omega) hLL ?_
    refine x_callV (as := [_]) okX5_sortAt bX5 rfl rfl q1812 dL_law_796 (Nat.le_of_ble_eq_true rfl) rfl (Nat.le_of_ble_eq_true rfl) (by show _ ≤ 603072; omega) (by show _ ≤ 7262314; omega) (pX5_sortAt  (fun z => absurd (hb.symm.trans z) (by decide)) (fun j02 hj02 e02 => ?_))
    intros
    obtain rfl := nJ (by omega) (by omega) e01 e02
    refine x_icmp_eq 1712 dL_law_799 (by decide) (fun _ => ?_) (fun c_ => absurd (rfl) c_)
    exact go_fin (kN := kN) hG ⟨hn, by omega, hLk, hP, hHs, hSi, hSh, hIm, hFx⟩ (by omega) (by omega)
  · refine x_aload_n dL_law_781 rfl ?_
    refine x_aload_n dL_law_782 rfl ?_
    refine x_iload_n dL_law_783 rfl ?_
    refine x_iconst 1 dL_law_784 (by decide) ?_
    refine x_iadd dL_law_785 ?_
    refine x_sldE (j := i + 1) dL_law_786 (nI_add i 1) (by omega) hLL ?_
    refine x_callV (as := [_]) okX0_sortAt bX0 rfl rfl q1187 dL_law_787 (Nat.le_of_ble_eq_true rfl) rfl (Nat.le_of_ble_eq_true rfl) (by show _ ≤ 603072; omega) (by show _ ≤ 7262314; omega) (pX0_sortAt  (fun _ => ?_) (fun j01 hj01 e01 => absurd (by rw [inP hj01 e01] <;> rfl) hb))
    intros
    refine x_aload_n dL_law_790 rfl ?_
    refine x_aload_n dL_law_791 rfl ?_
    refine x_iload_n dL_law_792 rfl ?_
    refine x_iconst 1 dL_law_793 (by decide) ?_
    refine x_iadd dL_law_794 ?_
    refine x_sldE (j := i + 1) dL_law_795 (nI_add i 1) (by omega) hLL ?_
    refine x_callV (as := [_]) okX5_sortAt bX5 rfl rfl q1812 dL_law_796 (Nat.le_of_ble_eq_true rfl) rfl (Nat.le_of_ble_eq_true rfl) (by show _ ≤ 603072; omega) (by show _ ≤ 7262314; omega) (pX5_sortAt  (fun _ => ?_) (fun j02 hj02 e02 => absurd (by rw [inP hj02 e02] <;> rfl) hb))
    intros
    refine x_icmp_eq 1712 dL_law_799 (by decide) (fun _ => ?_) (fun c_ => absurd (rfl) c_)
    exact go_fin (kN := kN) hG ⟨hn, by omega, hLk, hP, hHs, hSi, hSh, hIm, hFx⟩ (by omega) (by omega)
