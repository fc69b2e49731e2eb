set_option maxRecDepth 100000
/-! the law's cases (printed by gen/ops.py) -/
theorem lg_same (x : Int64) : lg_cmp x x = 0 := by
  unfold lg_cmp
  simp [Int64.lt_irrefl]
theorem no10 {x : Nat} (h : x < 8) : inB (nI (10 + x)) 0 4 = false := by
  have : ∀ x, x < 8 → inB (nI (10 + x)) 0 4 = false := by decide
  exact this x h
theorem law_9 {L : Nat} {xs : Nat → Int32} {k i ce sl : Nat} {h : AHp} (hi : i + 6 ≤ L) (hLL : L < 1000) (hce : ce ≤ 593672) (hsl : sl ≤ 7149314) (hC : Can k h) (hG : GoL L xs k i ce sl) : RchX (ScP L xs) JL ce sl 630 [some (.ref 4), some (.ref 1), some (.ref 0), some (.int (nI i))] [] h := by
  obtain ⟨th, kd, ow, ag, lk, co, sh, hs, tp, hd, rl, ro, rf, ol, ah, tr, od, tk, fo, wi, ou, ge, mo, ev, se, fr, to, tn, va, im, lo, iv, tP, tL, tA, tK, tC, tS, tH, tN, tE, tZ, tf, mP, mf, eP, eT, eF, ef, eg, ew, rx, gx, wx, hv, rc, ic, pf, lc, n, t, kN, rfl, hcp⟩ := hC
  obtain ⟨hn, htk, hLk, hP, hHs, hSi, hSh, hIm, hFx⟩ := hcp
  have hLI := lkI_of hn hLk
  obtain ⟨hk, ho⟩ := lkH_of hLk
  have hNn := nl_none n
  by_cases hz : xs (i + 3) = 0
  · by_cases hb : (inB (xs (i + 1)) 0 (nI n - 1) && inB (xs (i + 2)) 0 7) = true
    · refine x_aload_n dL_law_630 rfl ?_
      refine x_aload_n dL_law_631 rfl ?_
      refine x_iload_n dL_law_632 rfl ?_
      refine x_iconst 1 dL_law_633 (by decide) ?_
      refine x_iadd dL_law_634 ?_
      refine x_sldE (j := i + 1) dL_law_635 (nI_add i 1) (by omega) hLL ?_
      refine x_aload_n dL_law_636 rfl ?_
      refine x_iload_n dL_law_637 rfl ?_
      refine x_iconst 2 dL_law_638 (by decide) ?_
      refine x_iadd dL_law_639 ?_
      refine x_sldE (j := i + 2) dL_law_640 (nI_add i 2) (by omega) hLL ?_
      refine x_aload_n dL_law_641 rfl ?_
      refine x_iload_n dL_law_642 rfl ?_
      refine x_iconst 3 dL_law_643 (by decide) ?_
      refine x_iadd dL_law_644 ?_
      refine x_sldE (j := i + 3) dL_law_645 (nI_add i 3) (by omega) hLL ?_
      refine x_if_eq 653 dL_law_646 (by decide) (fun _ => ?_) (fun c_ => absurd (hz) c_)
      refine x_iconst 0 dL_law_653 (by decide) ?_
      refine x_callV (as := [_, _, _]) okX0_likes bX0 rfl rfl q970 dL_law_654 (Nat.le_of_ble_eq_true rfl) rfl (Nat.le_of_ble_eq_true rfl) (by show _ ≤ 603072; omega) (by show _ ≤ 7262314; omega) (pX0_likes hn (fun z => absurd (hb.symm.trans z) (by decide)) (fun j1 hj1 e1 b1 => ?_))
      intros
      refine x_aload_n dL_law_657 rfl ?_
      refine x_aload_n dL_law_658 rfl ?_
      refine x_iload_n dL_law_659 rfl ?_
      refine x_iconst 1 dL_law_660 (by decide) ?_
      refine x_iadd dL_law_661 ?_
      refine x_sldE (j := i + 1) dL_law_662 (nI_add i 1) (by omega) hLL ?_
      refine x_aload_n dL_law_663 rfl ?_
      refine x_iload_n dL_law_664 rfl ?_
      refine x_iconst 2 dL_law_665 (by decide) ?_
      refine x_iadd dL_law_666 ?_
      refine x_sldE (j := i + 2) dL_law_667 (nI_add i 2) (by omega) hLL ?_
      refine x_aload_n dL_law_668 rfl ?_
      refine x_iload_n dL_law_669 rfl ?_
      refine x_iconst 3 dL_law_670 (by decide) ?_
      refine x_iadd dL_law_671 ?_
      refine x_sldE (j := i + 3) dL_law_672 (nI_add i 3) (by omega) hLL ?_
      refine x_if_eq 680 dL_law_673 (by decide) (fun _ => ?_) (fun c_ => absurd (hz) c_)
      refine x_iconst 0 dL_law_680 (by decide) ?_
      refine x_callV (as := [_, _, _]) okX5_likes bX5 rfl rfl q1744 dL_law_681 (Nat.le_of_ble_eq_true rfl) rfl (Nat.le_of_ble_eq_true rfl) (by show _ ≤ 603072; omega) (by show _ ≤ 7262314; omega) (pX5_likes hn (fun z => absurd (hb.symm.trans z) (by decide)) (fun j2 hj2 e2 b2 => ?_))
      intros
      obtain rfl := nJ (by omega) (by omega) e1 e2
      refine x_icmp_eq 1712 dL_law_684 (by decide) (fun _ => ?_) (fun c_ => absurd (rfl) c_)
      exact go_fin (kN := kN) hG ⟨hn, by omega, hLk, hP, hHs, hSi, hSh, hIm, hFx⟩ (by omega) (by omega)
    · refine x_aload_n dL_law_630 rfl ?_
      refine x_aload_n dL_law_631 rfl ?_
      refine x_iload_n dL_law_632 rfl ?_
      refine x_iconst 1 dL_law_633 (by decide) ?_
      refine x_iadd dL_law_634 ?_
      refine x_sldE (j := i + 1) dL_law_635 (nI_add i 1) (by omega) hLL ?_
      refine x_aload_n dL_law_636 rfl ?_
      refine x_iload_n dL_law_637 rfl ?_
      refine x_iconst 2 dL_law_638 (by decide) ?_
      refine x_iadd dL_law_639 ?_
      refine x_sldE (j := i + 2) dL_law_640 (nI_add i 2) (by omega) hLL ?_
      refine x_aload_n dL_law_641 rfl ?_
      refine x_iload_n dL_law_642 rfl ?_
      refine x_iconst 3 dL_law_643 (by decide) ?_
      refine x_iadd dL_law_644 ?_
      refine x_sldE (j := i + 3) dL_law_645 (nI_add i 3) (by omega) hLL ?_
      refine x_if_eq 653 dL_law_646 (by decide) (fun _ => ?_) (fun c_ => absurd (hz) c_)
      refine x_iconst 0 dL_law_653 (by decide) ?_
      refine x_callV (as := [_, _, _]) okX0_likes bX0 rfl rfl q970 dL_law_654 (Nat.le_of_ble_eq_true rfl) rfl (Nat.le_of_ble_eq_true rfl) (by show _ ≤ 603072; omega) (by show _ ≤ 7262314; omega) (pX0_likes hn (fun _ => ?_) (fun j hj e b => absurd (by rw [inL hj hn e, b] <;> rfl) hb))
      intros
      refine x_aload_n dL_law_657 rfl ?_
      refine x_aload_n dL_law_658 rfl ?_
      refine x_iload_n dL_law_659 rfl ?_
      refine x_iconst 1 dL_law_660 (by decide) ?_
      refine x_iadd dL_law_661 ?_
      refine x_sldE (j := i + 1) dL_law_662 (nI_add i 1) (by omega) hLL ?_
      refine x_aload_n dL_law_663 rfl ?_
      refine x_iload_n dL_law_664 rfl ?_
      refine x_iconst 2 dL_law_665 (by decide) ?_
      refine x_iadd dL_law_666 ?_
      refine x_sldE (j := i + 2) dL_law_667 (nI_add i 2) (by omega) hLL ?_
      refine x_aload_n dL_law_668 rfl ?_
      refine x_iload_n dL_law_669 rfl ?_
      refine x_iconst 3 dL_law_670 (by decide) ?_
      refine x_iadd dL_law_671 ?_
      refine x_sldE (j := i + 3) dL_law_672 (nI_add i 3) (by omega) hLL ?_
      refine x_if_eq 680 dL_law_673 (by decide) (fun _ => ?_) (fun c_ => absurd (hz) c_)
      refine x_iconst 0 dL_law_680 (by decide) ?_
      refine x_callV (as := [_, _, _]) okX5_likes bX5 rfl rfl q1744 dL_law_681 (Nat.le_of_ble_eq_true rfl) rfl (Nat.le_of_ble_eq_true rfl) (by show _ ≤ 603072; omega) (by show _ ≤ 7262314; omega) (pX5_likes hn (fun _ => ?_) (fun j hj e b => absurd (by rw [inL hj hn e, b] <;> rfl) hb))
      intros
      refine x_icmp_eq 1712 dL_law_684 (by decide) (fun _ => ?_) (fun c_ => absurd (rfl) c_)
      exact go_fin (kN := kN) hG ⟨hn, by omega, hLk, hP, hHs, hSi, hSh, hIm, hFx⟩ (by omega) (by omega)
  · by_cases hb : (inB (xs (i + 1)) 0 (nI n - 1) && inB (xs (i + 2)) 0 7) = true
    · refine x_aload_n dL_law_630 rfl ?_
      refine x_aload_n dL_law_631 rfl ?_
      refine x_iload_n dL_law_632 rfl ?_
      refine x_iconst 1 dL_law_633 (by decide) ?_
      refine x_iadd dL_law_634 ?_
      refine x_sldE (j := i + 1) dL_law_635 (nI_add i 1) (by omega) hLL ?_
      refine x_aload_n dL_law_636 rfl ?_
      refine x_iload_n dL_law_637 rfl ?_
      refine x_iconst 2 dL_law_638 (by decide) ?_
      refine x_iadd dL_law_639 ?_
      refine x_sldE (j := i + 2) dL_law_640 (nI_add i 2) (by omega) hLL ?_
      refine x_aload_n dL_law_641 rfl ?_
      refine x_iload_n dL_law_642 rfl ?_
      refine x_iconst 3 dL_law_643 (by decide) ?_
      refine x_iadd dL_law_644 ?_
      refine x_sldE (j := i + 3) dL_law_645 (nI_add i 3) (by omega) hLL ?_
      refine x_if_eq 653 dL_law_646 (by decide) (fun c_ => absurd c_ (hz)) (fun _ => ?_)
      refine x_iconst 1 dL_law_649 (by decide) ?_
      refine x_goto 654 dL_law_650 (by decide) ?_
      refine x_callV (as := [_, _, _]) okX0_likes bX0 rfl rfl q970 dL_law_654 (Nat.le_of_ble_eq_true rfl) rfl (Nat.le_of_ble_eq_true rfl) (by show _ ≤ 603072; omega) (by show _ ≤ 7262314; omega) (pX0_likes hn (fun z => absurd (hb.symm.trans z) (by decide)) (fun j1 hj1 e1 b1 => ?_))
      intros
      refine x_aload_n dL_law_657 rfl ?_
      refine x_aload_n dL_law_658 rfl ?_
      refine x_iload_n dL_law_659 rfl ?_
      refine x_iconst 1 dL_law_660 (by decide) ?_
      refine x_iadd dL_law_661 ?_
      refine x_sldE (j := i + 1) dL_law_662 (nI_add i 1) (by omega) hLL ?_
      refine x_aload_n dL_law_663 rfl ?_
      refine x_iload_n dL_law_664 rfl ?_
      refine x_iconst 2 dL_law_665 (by decide) ?_
      refine x_iadd dL_law_666 ?_
      refine x_sldE (j := i + 2) dL_law_667 (nI_add i 2) (by omega) hLL ?_
      refine x_aload_n dL_law_668 rfl ?_
      refine x_iload_n dL_law_669 rfl ?_
      refine x_iconst 3 dL_law_670 (by decide) ?_
      refine x_iadd dL_law_671 ?_
      refine x_sldE (j := i + 3) dL_law_672 (nI_add i 3) (by omega) hLL ?_
      refine x_if_eq 680 dL_law_673 (by decide) (fun c_ => absurd c_ (hz)) (fun _ => ?_)
      refine x_iconst 1 dL_law_676 (by decide) ?_
      refine x_goto 681 dL_law_677 (by decide) ?_
      refine x_callV (as := [_, _, _]) okX5_likes bX5 rfl rfl q1744 dL_law_681 (Nat.le_of_ble_eq_true rfl) rfl (Nat.le_of_ble_eq_true rfl) (by show _ ≤ 603072; omega) (by show _ ≤ 7262314; omega) (pX5_likes hn (fun z => absurd (hb.symm.trans z) (by decide)) (fun j2 hj2 e2 b2 => ?_))
      intros
      obtain rfl := nJ (by omega) (by omega) e1 e2
      refine x_icmp_eq 1712 dL_law_684 (by decide) (fun _ => ?_) (fun c_ => absurd (rfl) c_)
      exact go_fin (kN := kN) hG ⟨hn, by omega, hLk, hP, hHs, hSi, hSh, hIm, hFx⟩ (by omega) (by omega)
    · refine x_aload_n dL_law_630 rfl ?_
      refine x_aload_n dL_law_631 rfl ?_
      refine x_iload_n dL_law_632 rfl ?_
      refine x_iconst 1 dL_law_633 (by decide) ?_
      refine x_iadd dL_law_634 ?_
      refine x_sldE (j := i + 1) dL_law_635 (nI_add i 1) (by omega) hLL ?_
      refine x_aload_n dL_law_636 rfl ?_
      refine x_iload_n dL_law_637 rfl ?_
      refine x_iconst 2 dL_law_638 (by decide) ?_
      refine x_iadd dL_law_639 ?_
      refine x_sldE (j := i + 2) dL_law_640 (nI_add i 2) (by omega) hLL ?_
      refine x_aload_n dL_law_641 rfl ?_
      refine x_iload_n dL_law_642 rfl ?_
      refine x_iconst 3 dL_law_643 (by decide) ?_
      refine x_iadd dL_law_644 ?_
      refine x_sldE (j := i + 3) dL_law_645 (nI_add i 3) (by omega) hLL ?_
      refine x_if_eq 653 dL_law_646 (by decide) (fun c_ => absurd c_ (hz)) (fun _ => ?_)
      refine x_iconst 1 dL_law_649 (by decide) ?_
      refine x_goto 654 dL_law_650 (by decide) ?_
      refine x_callV (as := [_, _, _]) okX0_likes bX0 rfl rfl q970 dL_law_654 (Nat.le_of_ble_eq_true rfl) rfl (Nat.le_of_ble_eq_true rfl) (by show _ ≤ 603072; omega) (by show _ ≤ 7262314; omega) (pX0_likes hn (fun _ => ?_) (fun j hj e b => absurd (by rw [inL hj hn e, b] <;> rfl) hb))
      intros
      refine x_aload_n dL_law_657 rfl ?_
      refine x_aload_n dL_law_658 rfl ?_
      refine x_iload_n dL_law_659 rfl ?_
      refine x_iconst 1 dL_law_660 (by decide) ?_
      refine x_iadd dL_law_661 ?_
      refine x_sldE (j := i + 1) dL_law_662 (nI_add i 1) (by omega) hLL ?_
      refine x_aload_n dL_law_663 rfl ?_
      refine x_iload_n dL_law_664 rfl ?_
      refine x_iconst 2 dL_law_665 (by decide) ?_
      refine x_iadd dL_law_666 ?_
      refine x_sldE (j := i + 2) dL_law_667 (nI_add i 2) (by omega) hLL ?_
      refine x_aload_n dL_law_668 rfl ?_
      refine x_iload_n dL_law_669 rfl ?_
      refine x_iconst 3 dL_law_670 (by decide) ?_
      refine x_iadd dL_law_671 ?_
      refine x_sldE (j := i + 3) dL_law_672 (nI_add i 3) (by omega) hLL ?_
      refine x_if_eq 680 dL_law_673 (by decide) (fun c_ => absurd c_ (hz)) (fun _ => ?_)
      refine x_iconst 1 dL_law_676 (by decide) ?_
      refine x_goto 681 dL_law_677 (by decide) ?_
      refine x_callV (as := [_, _, _]) okX5_likes bX5 rfl rfl q1744 dL_law_681 (Nat.le_of_ble_eq_true rfl) rfl (Nat.le_of_ble_eq_true rfl) (by show _ ≤ 603072; omega) (by show _ ≤ 7262314; omega) (pX5_likes hn (fun _ => ?_) (fun j hj e b => absurd (by rw [inL hj hn e, b] <;> rfl) hb))
      intros
      refine x_icmp_eq 1712 dL_law_684 (by decide) (fun _ => ?_) (fun c_ => absurd (rfl) c_)
      exact go_fin (kN := kN) hG ⟨hn, by omega, hLk, hP, hHs, hSi, hSh, hIm, hFx⟩ (by omega) (by omega)
theorem law_24 {L : Nat} {xs : Nat → Int32} {k i ce sl : Nat} {h : AHp} (hi : i + 6 ≤ L) (hLL : L < 1000) (hce : ce ≤ 593672) (hsl : sl ≤ 7149314) (hC : Can k h) (hG : GoL L xs k i ce sl) : RchX (ScP L xs) JL ce sl 1091 [some (.ref 4), some (.ref 1), some (.ref 0), some (.int (nI i))] [] h := by
  obtain ⟨th, kd, ow, ag, lk, co, sh, hs, tp, hd, rl, ro, rf, ol, ah, tr, od, tk, fo, wi, ou, ge, mo, ev, se, fr, to, tn, va, im, lo, iv, tP, tL, tA, tK, tC, tS, tH, tN, tE, tZ, tf, mP, mf, eP, eT, eF, ef, eg, ew, rx, gx, wx, hv, rc, ic, pf, lc, n, t, kN, rfl, hcp⟩ := hC
  obtain ⟨hn, htk, hLk, hP, hHs, hSi, hSh, hIm, hFx⟩ := hcp
  have hLI := lkI_of hn hLk
  obtain ⟨hk, ho⟩ := lkH_of hLk
  have hNn := nl_none n
  by_cases hb : (inB (xs (i + 1)) 0 (allS n) && (inB (xs (i + 2)) 0 (nI n - 1) && (inB (xs (i + 3)) 0 4095 && (inB (xs (i + 4)) 0 1 && hasB (xs (i + 1)) (xs (i + 2)))))) = true
  · simp only [Bool.and_eq_true] at hb
    obtain ⟨b1, b2, b3, b4, b5⟩ := hb
    obtain ⟨j, hj, ej⟩ := inB_m b2 (by omega)
    rw [ej] at b5
    obtain ⟨z, hz, ez⟩ : ∃ z, z < 2 ∧ xs (i + 4) = nI z := inB_m (m := 2) b4 (by omega)
    rcases (show z = 0 ∨ z = 1 by omega) with rfl | rfl
    · refine x_aload_n dL_law_1091 rfl ?_
      refine x_aload_n dL_law_1092 rfl ?_
      refine x_iload_n dL_law_1093 rfl ?_
      refine x_iconst 1 dL_law_1094 (by decide) ?_
      refine x_iadd dL_law_1095 ?_
      refine x_sldE (j := i + 1) dL_law_1096 (nI_add i 1) (by omega) hLL ?_
      refine x_aload_n dL_law_1097 rfl ?_
      refine x_iload_n dL_law_1098 rfl ?_
      refine x_iconst 2 dL_law_1099 (by decide) ?_
      refine x_iadd dL_law_1100 ?_
      refine x_sldE (j := i + 2) dL_law_1101 (nI_add i 2) (by omega) hLL ?_
      refine x_aload_n dL_law_1102 rfl ?_
      refine x_iload_n dL_law_1103 rfl ?_
      refine x_iconst 3 dL_law_1104 (by decide) ?_
      refine x_iadd dL_law_1105 ?_
      refine x_sldE (j := i + 3) dL_law_1106 (nI_add i 3) (by omega) hLL ?_
      refine x_aload_n dL_law_1107 rfl ?_
      refine x_iload_n dL_law_1108 rfl ?_
      refine x_iconst 4 dL_law_1109 (by decide) ?_
      refine x_iadd dL_law_1110 ?_
      refine x_sldE (j := i + 4) dL_law_1111 (nI_add i 4) (by omega) hLL ?_
      rw [ej, ez]
      refine x_callV (as := [_, _, _, _]) okX0_kinds bX0 rfl rfl q1353 dL_law_1112 (Nat.le_of_ble_eq_true rfl) rfl (Nat.le_of_ble_eq_true rfl) (by show _ ≤ 603072; omega) (by show _ ≤ 7262314; omega) (pX0_kinds_0 hn hLI hNn hP hj b1 b3 b5 ?_)
      intros
      refine x_aload_n dL_law_1115 rfl ?_
      refine x_aload_n dL_law_1116 rfl ?_
      refine x_iload_n dL_law_1117 rfl ?_
      refine x_iconst 1 dL_law_1118 (by decide) ?_
      refine x_iadd dL_law_1119 ?_
      refine x_sldE (j := i + 1) dL_law_1120 (nI_add i 1) (by omega) hLL ?_
      refine x_aload_n dL_law_1121 rfl ?_
      refine x_iload_n dL_law_1122 rfl ?_
      refine x_iconst 2 dL_law_1123 (by decide) ?_
      refine x_iadd dL_law_1124 ?_
      refine x_sldE (j := i + 2) dL_law_1125 (nI_add i 2) (by omega) hLL ?_
      refine x_aload_n dL_law_1126 rfl ?_
      refine x_iload_n dL_law_1127 rfl ?_
      refine x_iconst 3 dL_law_1128 (by decide) ?_
      refine x_iadd dL_law_1129 ?_
      refine x_sldE (j := i + 3) dL_law_1130 (nI_add i 3) (by omega) hLL ?_
      refine x_aload_n dL_law_1131 rfl ?_
      refine x_iload_n dL_law_1132 rfl ?_
      refine x_iconst 4 dL_law_1133 (by decide) ?_
      refine x_iadd dL_law_1134 ?_
      refine x_sldE (j := i + 4) dL_law_1135 (nI_add i 4) (by omega) hLL ?_
      rw [ej, ez]
      refine x_callV (as := [_, _, _, _]) okX5_kinds bX5 rfl rfl q1876 dL_law_1136 (Nat.le_of_ble_eq_true rfl) rfl (Nat.le_of_ble_eq_true rfl) (by show _ ≤ 603072; omega) (by show _ ≤ 7262314; omega) (pX5_kinds_0 hn hk ho hj b1 b3 b5 ?_)
      intros
      refine x_icmp_eq 1712 dL_law_1139 (by decide) (fun _ => ?_) (fun c_ => absurd (rfl) c_)
      exact go_fin (kN := kN) hG ⟨hn, by omega, hLk, hP, hHs, hSi, hSh, hIm, hFx⟩ (by omega) (by omega)
    · refine x_aload_n dL_law_1091 rfl ?_
      refine x_aload_n dL_law_1092 rfl ?_
      refine x_iload_n dL_law_1093 rfl ?_
      refine x_iconst 1 dL_law_1094 (by decide) ?_
      refine x_iadd dL_law_1095 ?_
      refine x_sldE (j := i + 1) dL_law_1096 (nI_add i 1) (by omega) hLL ?_
      refine x_aload_n dL_law_1097 rfl ?_
      refine x_iload_n dL_law_1098 rfl ?_
      refine x_iconst 2 dL_law_1099 (by decide) ?_
      refine x_iadd dL_law_1100 ?_
      refine x_sldE (j := i + 2) dL_law_1101 (nI_add i 2) (by omega) hLL ?_
      refine x_aload_n dL_law_1102 rfl ?_
      refine x_iload_n dL_law_1103 rfl ?_
      refine x_iconst 3 dL_law_1104 (by decide) ?_
      refine x_iadd dL_law_1105 ?_
      refine x_sldE (j := i + 3) dL_law_1106 (nI_add i 3) (by omega) hLL ?_
      refine x_aload_n dL_law_1107 rfl ?_
      refine x_iload_n dL_law_1108 rfl ?_
      refine x_iconst 4 dL_law_1109 (by decide) ?_
      refine x_iadd dL_law_1110 ?_
      refine x_sldE (j := i + 4) dL_law_1111 (nI_add i 4) (by omega) hLL ?_
      rw [ej, ez]
      refine x_callV (as := [_, _, _, _]) okX0_kinds bX0 rfl rfl q1353 dL_law_1112 (Nat.le_of_ble_eq_true rfl) rfl (Nat.le_of_ble_eq_true rfl) (by show _ ≤ 603072; omega) (by show _ ≤ 7262314; omega) (pX0_kinds_1 hn hLI hNn hP hj b1 b3 b5 ?_)
      intros
      refine x_aload_n dL_law_1115 rfl ?_
      refine x_aload_n dL_law_1116 rfl ?_
      refine x_iload_n dL_law_1117 rfl ?_
      refine x_iconst 1 dL_law_1118 (by decide) ?_
      refine x_iadd dL_law_1119 ?_
      refine x_sldE (j := i + 1) dL_law_1120 (nI_add i 1) (by omega) hLL ?_
      refine x_aload_n dL_law_1121 rfl ?_
      refine x_iload_n dL_law_1122 rfl ?_
      refine x_iconst 2 dL_law_1123 (by decide) ?_
      refine x_iadd dL_law_1124 ?_
      refine x_sldE (j := i + 2) dL_law_1125 (nI_add i 2) (by omega) hLL ?_
      refine x_aload_n dL_law_1126 rfl ?_
      refine x_iload_n dL_law_1127 rfl ?_
      refine x_iconst 3 dL_law_1128 (by decide) ?_
      refine x_iadd dL_law_1129 ?_
      refine x_sldE (j := i + 3) dL_law_1130 (nI_add i 3) (by omega) hLL ?_
      refine x_aload_n dL_law_1131 rfl ?_
      refine x_iload_n dL_law_1132 rfl ?_
      refine x_iconst 4 dL_law_1133 (by decide) ?_
      refine x_iadd dL_law_1134 ?_
      refine x_sldE (j := i + 4) dL_law_1135 (nI_add i 4) (by omega) hLL ?_
      rw [ej, ez]
      refine x_callV (as := [_, _, _, _]) okX5_kinds bX5 rfl rfl q1876 dL_law_1136 (Nat.le_of_ble_eq_true rfl) rfl (Nat.le_of_ble_eq_true rfl) (by show _ ≤ 603072; omega) (by show _ ≤ 7262314; omega) (pX5_kinds_1 hn hk ho hj b1 b3 b5 ?_)
      intros
      refine x_icmp_eq 1712 dL_law_1139 (by decide) (fun _ => ?_) (fun c_ => absurd (rfl) c_)
      exact go_fin (kN := kN) hG ⟨hn, by omega, hLk, hP, hHs, hSi, hSh, hIm, hFx⟩ (by omega) (by omega)
  · refine x_aload_n dL_law_1091 rfl ?_
    refine x_aload_n dL_law_1092 rfl ?_
    refine x_iload_n dL_law_1093 rfl ?_
    refine x_iconst 1 dL_law_1094 (by decide) ?_
    refine x_iadd dL_law_1095 ?_
    refine x_sldE (j := i + 1) dL_law_1096 (nI_add i 1) (by omega) hLL ?_
    refine x_aload_n dL_law_1097 rfl ?_
    refine x_iload_n dL_law_1098 rfl ?_
    refine x_iconst 2 dL_law_1099 (by decide) ?_
    refine x_iadd dL_law_1100 ?_
    refine x_sldE (j := i + 2) dL_law_1101 (nI_add i 2) (by omega) hLL ?_
    refine x_aload_n dL_law_1102 rfl ?_
    refine x_iload_n dL_law_1103 rfl ?_
    refine x_iconst 3 dL_law_1104 (by decide) ?_
    refine x_iadd dL_law_1105 ?_
    refine x_sldE (j := i + 3) dL_law_1106 (nI_add i 3) (by omega) hLL ?_
    refine x_aload_n dL_law_1107 rfl ?_
    refine x_iload_n dL_law_1108 rfl ?_
    refine x_iconst 4 dL_law_1109 (by decide) ?_
    refine x_iadd dL_law_1110 ?_
    refine x_sldE (j := i + 4) dL_law_1111 (nI_add i 4) (by omega) hLL ?_
    refine x_callV (as := [_, _, _, _]) okX0_kinds bX0 rfl rfl q1353 dL_law_1112 (Nat.le_of_ble_eq_true rfl) rfl (Nat.le_of_ble_eq_true rfl) (by show _ ≤ 603072; omega) (by show _ ≤ 7262314; omega) (pX0_kinds_bad hn (Bool.not_eq_true _ |>.mp hb) ?_)
    intros
    refine x_aload_n dL_law_1115 rfl ?_
    refine x_aload_n dL_law_1116 rfl ?_
    refine x_iload_n dL_law_1117 rfl ?_
    refine x_iconst 1 dL_law_1118 (by decide) ?_
    refine x_iadd dL_law_1119 ?_
    refine x_sldE (j := i + 1) dL_law_1120 (nI_add i 1) (by omega) hLL ?_
    refine x_aload_n dL_law_1121 rfl ?_
    refine x_iload_n dL_law_1122 rfl ?_
    refine x_iconst 2 dL_law_1123 (by decide) ?_
    refine x_iadd dL_law_1124 ?_
    refine x_sldE (j := i + 2) dL_law_1125 (nI_add i 2) (by omega) hLL ?_
    refine x_aload_n dL_law_1126 rfl ?_
    refine x_iload_n dL_law_1127 rfl ?_
    refine x_iconst 3 dL_law_1128 (by decide) ?_
    refine x_iadd dL_law_1129 ?_
    refine x_sldE (j := i + 3) dL_law_1130 (nI_add i 3) (by omega) hLL ?_
    refine x_aload_n dL_law_1131 rfl ?_
    refine x_iload_n dL_law_1132 rfl ?_
    refine x_iconst 4 dL_law_1133 (by decide) ?_
    refine x_iadd dL_law_1134 ?_
    refine x_sldE (j := i + 4) dL_law_1135 (nI_add i 4) (by omega) hLL ?_
    refine x_callV (as := [_, _, _, _]) okX5_kinds bX5 rfl rfl q1876 dL_law_1136 (Nat.le_of_ble_eq_true rfl) rfl (Nat.le_of_ble_eq_true rfl) (by show _ ≤ 603072; omega) (by show _ ≤ 7262314; omega) (pX5_kinds_bad hn (Bool.not_eq_true _ |>.mp hb) ?_)
    intros
    refine x_icmp_eq 1712 dL_law_1139 (by decide) (fun _ => ?_) (fun c_ => absurd (rfl) c_)
    exact go_fin (kN := kN) hG ⟨hn, by omega, hLk, hP, hHs, hSi, hSh, hIm, hFx⟩ (by omega) (by omega)
theorem law_3 {L : Nat} {xs : Nat → Int32} {k i ce sl : Nat} {h : AHp} (hi : i + 6 ≤ L) (hLL : L < 1000) (hce : ce ≤ 593672) (hsl : sl ≤ 7149314) (hC : Can k h) (hG : GoL L xs k i ce sl) : RchX (ScP L xs) JL ce sl 431 [some (.ref 4), some (.ref 1), some (.ref 0), some (.int (nI i))] [] h := by
  obtain ⟨th, kd, ow, ag, lk, co, sh, hs, tp, hd, rl, ro, rf, ol, ah, tr, od, tk, fo, wi, ou, ge, mo, ev, se, fr, to, tn, va, im, lo, iv, tP, tL, tA, tK, tC, tS, tH, tN, tE, tZ, tf, mP, mf, eP, eT, eF, ef, eg, ew, rx, gx, wx, hv, rc, ic, pf, lc, n, t, kN, rfl, hcp⟩ := hC
  obtain ⟨hn, htk, hLk, hP, hHs, hSi, hSh, hIm, hFx⟩ := hcp
  have hLI := lkI_of hn hLk
  obtain ⟨hk, ho⟩ := lkH_of hLk
  have hNn := nl_none n
  by_cases hb : inB (xs (i + 1)) 0 7 = true
  · obtain ⟨j, hj, ej⟩ : ∃ j, j < 8 ∧ xs (i + 1) = nI j := inB_m (m := 8) hb (by omega)
    rcases hSh j hj with ⟨h1, h2⟩ | ⟨kk, m, f, h1, h2, h3, h4, h5, h6, h7⟩ | ⟨x, h1, h2, h3⟩
    · refine x_aload_n dL_law_431 rfl ?_
      refine x_aload_n dL_law_432 rfl ?_
      refine x_iload_n dL_law_433 rfl ?_
      refine x_iconst 1 dL_law_434 (by decide) ?_
      refine x_iadd dL_law_435 ?_
      refine x_sldE (j := i + 1) dL_law_436 (nI_add i 1) (by omega) hLL ?_
      refine x_aload_n dL_law_437 rfl ?_
      refine x_iload_n dL_law_438 rfl ?_
      refine x_iconst 2 dL_law_439 (by decide) ?_
      refine x_iadd dL_law_440 ?_
      refine x_sldE (j := i + 2) dL_law_441 (nI_add i 2) (by omega) hLL ?_
      rw [ej]
      refine x_xV (as := [_, _]) oxX0_element bX0 rfl rfl q504 dL_law_442 (Nat.le_of_ble_eq_true rfl) rfl (Nat.le_of_ble_eq_true rfl) (by show _ ≤ 603072; omega) (by show _ ≤ 7262314; omega) (pX0_element_0 hj h2 (fun _ => ?_))
      intros
      refine x_aload_n dL_law_445 rfl ?_
      refine x_aload_n dL_law_446 rfl ?_
      refine x_iload_n dL_law_447 rfl ?_
      refine x_iconst 1 dL_law_448 (by decide) ?_
      refine x_iadd dL_law_449 ?_
      refine x_sldE (j := i + 1) dL_law_450 (nI_add i 1) (by omega) hLL ?_
      refine x_aload_n dL_law_451 rfl ?_
      refine x_iload_n dL_law_452 rfl ?_
      refine x_iconst 2 dL_law_453 (by decide) ?_
      refine x_iadd dL_law_454 ?_
      refine x_sldE (j := i + 2) dL_law_455 (nI_add i 2) (by omega) hLL ?_
      rw [ej]
      refine x_callV (as := [_, _]) okX5_element bX5 rfl rfl q1656 dL_law_456 (Nat.le_of_ble_eq_true rfl) rfl (Nat.le_of_ble_eq_true rfl) (by show _ ≤ 603072; omega) (by show _ ≤ 7262314; omega) (pX5_element_nr hj (by rw [h1]; decide) ?_)
      intros
      refine x_lcmp dL_law_459 ?_
      refine x_if_eq 1712 dL_law_460 (by decide) (fun _ => ?_) (fun c_ => absurd (lg_same _) c_)
      exact go_fin (kN := kN) hG ⟨hn, by omega, hLk, hP, hHs, hSi, hSh, hIm, hFx⟩ (by omega) (by omega)
    · by_cases hv2 : vp_in (xs (i + 2)) m
      · refine x_aload_n dL_law_431 rfl ?_
        refine x_aload_n dL_law_432 rfl ?_
        refine x_iload_n dL_law_433 rfl ?_
        refine x_iconst 1 dL_law_434 (by decide) ?_
        refine x_iadd dL_law_435 ?_
        refine x_sldE (j := i + 1) dL_law_436 (nI_add i 1) (by omega) hLL ?_
        refine x_aload_n dL_law_437 rfl ?_
        refine x_iload_n dL_law_438 rfl ?_
        refine x_iconst 2 dL_law_439 (by decide) ?_
        refine x_iadd dL_law_440 ?_
        refine x_sldE (j := i + 2) dL_law_441 (nI_add i 2) (by omega) hLL ?_
        rw [ej]
        refine x_xV (as := [_, _]) oxX0_element bX0 rfl rfl q504 dL_law_442 (Nat.le_of_ble_eq_true rfl) rfl (Nat.le_of_ble_eq_true rfl) (by show _ ≤ 603072; omega) (by show _ ≤ 7262314; omega) (pX0_element_r hj h5 h1 h2 ((rc_at hj).trans (congrArg some h6)) (fun q hq => (h7 q hq).2) (fun q1 hq1 e1 => ?_) (fun z => absurd hv2 z))
        intros
        refine x_aload_n dL_law_445 rfl ?_
        refine x_aload_n dL_law_446 rfl ?_
        refine x_iload_n dL_law_447 rfl ?_
        refine x_iconst 1 dL_law_448 (by decide) ?_
        refine x_iadd dL_law_449 ?_
        refine x_sldE (j := i + 1) dL_law_450 (nI_add i 1) (by omega) hLL ?_
        refine x_aload_n dL_law_451 rfl ?_
        refine x_iload_n dL_law_452 rfl ?_
        refine x_iconst 2 dL_law_453 (by decide) ?_
        refine x_iadd dL_law_454 ?_
        refine x_sldE (j := i + 2) dL_law_455 (nI_add i 2) (by omega) hLL ?_
        rw [ej]
        refine x_callV (as := [_, _]) okX5_element bX5 rfl rfl q1656 dL_law_456 (Nat.le_of_ble_eq_true rfl) rfl (Nat.le_of_ble_eq_true rfl) (by show _ ≤ 603072; omega) (by show _ ≤ 7262314; omega) (pX5_element_row hj h1 h3 h2 h4 (fun z => absurd ((show inB _ 0 (nI m - 1) = true by rw [e1]; exact inB_mI hq1 (by omega)).symm.trans z) (by decide)) (fun q2 hq2 e2 => ?_))
        intros
        obtain rfl := nJ (by omega) (by omega) e1 e2
        rw [(h7 _ hq1).1]
        refine x_lcmp dL_law_459 ?_
        refine x_if_eq 1712 dL_law_460 (by decide) (fun _ => ?_) (fun c_ => absurd (lg_same _) c_)
        exact go_fin (kN := kN) hG ⟨hn, by omega, hLk, hP, hHs, hSi, hSh, hIm, hFx⟩ (by omega) (by omega)
      · refine x_aload_n dL_law_431 rfl ?_
        refine x_aload_n dL_law_432 rfl ?_
        refine x_iload_n dL_law_433 rfl ?_
        refine x_iconst 1 dL_law_434 (by decide) ?_
        refine x_iadd dL_law_435 ?_
        refine x_sldE (j := i + 1) dL_law_436 (nI_add i 1) (by omega) hLL ?_
        refine x_aload_n dL_law_437 rfl ?_
        refine x_iload_n dL_law_438 rfl ?_
        refine x_iconst 2 dL_law_439 (by decide) ?_
        refine x_iadd dL_law_440 ?_
        refine x_sldE (j := i + 2) dL_law_441 (nI_add i 2) (by omega) hLL ?_
        rw [ej]
        refine x_xV (as := [_, _]) oxX0_element bX0 rfl rfl q504 dL_law_442 (Nat.le_of_ble_eq_true rfl) rfl (Nat.le_of_ble_eq_true rfl) (by show _ ≤ 603072; omega) (by show _ ≤ 7262314; omega) (pX0_element_r hj h5 h1 h2 ((rc_at hj).trans (congrArg some h6)) (fun q hq => (h7 q hq).2) (fun q hq e => absurd (by rw [e]; exact vp_in_nI hq (by omega)) hv2) (fun _ _ => ?_))
        intros
        refine x_aload_n dL_law_445 rfl ?_
        refine x_aload_n dL_law_446 rfl ?_
        refine x_iload_n dL_law_447 rfl ?_
        refine x_iconst 1 dL_law_448 (by decide) ?_
        refine x_iadd dL_law_449 ?_
        refine x_sldE (j := i + 1) dL_law_450 (nI_add i 1) (by omega) hLL ?_
        refine x_aload_n dL_law_451 rfl ?_
        refine x_iload_n dL_law_452 rfl ?_
        refine x_iconst 2 dL_law_453 (by decide) ?_
        refine x_iadd dL_law_454 ?_
        refine x_sldE (j := i + 2) dL_law_455 (nI_add i 2) (by omega) hLL ?_
        rw [ej]
        refine x_callV (as := [_, _]) okX5_element bX5 rfl rfl q1656 dL_law_456 (Nat.le_of_ble_eq_true rfl) rfl (Nat.le_of_ble_eq_true rfl) (by show _ ≤ 603072; omega) (by show _ ≤ 7262314; omega) (pX5_element_row hj h1 h3 h2 h4 (fun _ => ?_) (fun q hq e => absurd (by rw [e]; exact vp_in_nI hq (by omega)) hv2))
        intros
        refine x_lcmp dL_law_459 ?_
        refine x_if_eq 1712 dL_law_460 (by decide) (fun _ => ?_) (fun c_ => absurd (lg_same _) c_)
        exact go_fin (kN := kN) hG ⟨hn, by omega, hLk, hP, hHs, hSi, hSh, hIm, hFx⟩ (by omega) (by omega)
    · refine x_aload_n dL_law_431 rfl ?_
      refine x_aload_n dL_law_432 rfl ?_
      refine x_iload_n dL_law_433 rfl ?_
      refine x_iconst 1 dL_law_434 (by decide) ?_
      refine x_iadd dL_law_435 ?_
      refine x_sldE (j := i + 1) dL_law_436 (nI_add i 1) (by omega) hLL ?_
      refine x_aload_n dL_law_437 rfl ?_
      refine x_iload_n dL_law_438 rfl ?_
      refine x_iconst 2 dL_law_439 (by decide) ?_
      refine x_iadd dL_law_440 ?_
      refine x_sldE (j := i + 2) dL_law_441 (nI_add i 2) (by omega) hLL ?_
      rw [ej]
      refine x_xV (as := [_, _]) oxX0_element bX0 rfl rfl q504 dL_law_442 (Nat.le_of_ble_eq_true rfl) rfl (Nat.le_of_ble_eq_true rfl) (by show _ ≤ 603072; omega) (by show _ ≤ 7262314; omega) (pX0_element_l hj h3 (hLk x h1).1 ((lc_at (by omega)).trans (congrArg some (hLk x h1).2.2.2)) (fun _ => ?_))
      intros
      refine x_aload_n dL_law_445 rfl ?_
      refine x_aload_n dL_law_446 rfl ?_
      refine x_iload_n dL_law_447 rfl ?_
      refine x_iconst 1 dL_law_448 (by decide) ?_
      refine x_iadd dL_law_449 ?_
      refine x_sldE (j := i + 1) dL_law_450 (nI_add i 1) (by omega) hLL ?_
      refine x_aload_n dL_law_451 rfl ?_
      refine x_iload_n dL_law_452 rfl ?_
      refine x_iconst 2 dL_law_453 (by decide) ?_
      refine x_iadd dL_law_454 ?_
      refine x_sldE (j := i + 2) dL_law_455 (nI_add i 2) (by omega) hLL ?_
      rw [ej]
      refine x_callV (as := [_, _]) okX5_element bX5 rfl rfl q1656 dL_law_456 (Nat.le_of_ble_eq_true rfl) rfl (Nat.le_of_ble_eq_true rfl) (by show _ ≤ 603072; omega) (by show _ ≤ 7262314; omega) (pX5_element_nr hj (by rw [h2]; exact no10 (by omega)) ?_)
      intros
      refine x_lcmp dL_law_459 ?_
      refine x_if_eq 1712 dL_law_460 (by decide) (fun _ => ?_) (fun c_ => absurd (lg_same _) c_)
      exact go_fin (kN := kN) hG ⟨hn, by omega, hLk, hP, hHs, hSi, hSh, hIm, hFx⟩ (by omega) (by omega)
  · refine x_aload_n dL_law_431 rfl ?_
    refine x_aload_n dL_law_432 rfl ?_
    refine x_iload_n dL_law_433 rfl ?_
    refine x_iconst 1 dL_law_434 (by decide) ?_
    refine x_iadd dL_law_435 ?_
    refine x_sldE (j := i + 1) dL_law_436 (nI_add i 1) (by omega) hLL ?_
    refine x_aload_n dL_law_437 rfl ?_
    refine x_iload_n dL_law_438 rfl ?_
    refine x_iconst 2 dL_law_439 (by decide) ?_
    refine x_iadd dL_law_440 ?_
    refine x_sldE (j := i + 2) dL_law_441 (nI_add i 2) (by omega) hLL ?_
    refine x_xV (as := [_, _]) oxX0_element bX0 rfl rfl q504 dL_law_442 (Nat.le_of_ble_eq_true rfl) rfl (Nat.le_of_ble_eq_true rfl) (by show _ ≤ 603072; omega) (by show _ ≤ 7262314; omega) (pX0_element_bad (Bool.not_eq_true _ |>.mp hb) (fun _ => ?_))
    intros
    refine x_aload_n dL_law_445 rfl ?_
    refine x_aload_n dL_law_446 rfl ?_
    refine x_iload_n dL_law_447 rfl ?_
    refine x_iconst 1 dL_law_448 (by decide) ?_
    refine x_iadd dL_law_449 ?_
    refine x_sldE (j := i + 1) dL_law_450 (nI_add i 1) (by omega) hLL ?_
    refine x_aload_n dL_law_451 rfl ?_
    refine x_iload_n dL_law_452 rfl ?_
    refine x_iconst 2 dL_law_453 (by decide) ?_
    refine x_iadd dL_law_454 ?_
    refine x_sldE (j := i + 2) dL_law_455 (nI_add i 2) (by omega) hLL ?_
    refine x_callV (as := [_, _]) okX5_element bX5 rfl rfl q1656 dL_law_456 (Nat.le_of_ble_eq_true rfl) rfl (Nat.le_of_ble_eq_true rfl) (by show _ ≤ 603072; omega) (by show _ ≤ 7262314; omega) (pX5_element_no (Bool.not_eq_true _ |>.mp hb) ?_)
    intros
    refine x_lcmp dL_law_459 ?_
    refine x_if_eq 1712 dL_law_460 (by decide) (fun _ => ?_) (fun c_ => absurd (lg_same _) c_)
    exact go_fin (kN := kN) hG ⟨hn, by omega, hLk, hP, hHs, hSi, hSh, hIm, hFx⟩ (by omega) (by omega)
