set_option maxRecDepth 100000
/-! the law's cases (printed by gen/ops.py) -/
theorem ordIn {ag : Nat → Int32} {s v : Int32} {n q : Nat} (hn : n ≤ 8) (hb : inB s 0 (allS n) = true) (hq : q < (ordL ag s n).length) (e : v = nI q) : inB v 0 (bcF s - 1) = true := by
  obtain ⟨z, hz, rfl⟩ := inB_ex (2 ^ n - 1) (nI_toInt (by have := p2_le hn; omega)) hb
  have hz2 : z < 2 ^ n := by have := p2_pos n; omega
  have hl := ordL_len ag (nI z) n
  rw [bc_cnt hn hz2, ← ordL_cnt ag, e]
  exact inB_mI hq (by omega)
theorem tell_w {w v : Int32} (h : tellB w v = true) : w = 0 ∨ w = 1 ∨ w = 2 := by
  unfold tellB at h
  by_cases h0 : w = 0
  · exact Or.inl h0
  · by_cases h1 : w = 1
    · exact Or.inr (Or.inl h1)
    · by_cases h2 : w = 2
      · exact Or.inr (Or.inr h2)
      · simp [h0, h1, h2] at h
theorem tell_is0 {w v : Int32} (h : w = 0) (hv : inB v 0 12 = true) : tellB w v = true := by
  subst h
  simp [tellB, hv]
theorem tell_is1 {w v : Int32} (h : w = 1) (hv : inB v 0 99 = true) : tellB w v = true := by
  subst h
  simp [tellB, hv]
theorem tell_is2 {w v : Int32} (h : w = 2) (hv : inB v (-1) 7 = true) : tellB w v = true := by
  subst h
  simp [tellB, hv]
theorem siI_upd {sh : Nat → Int32} {n j : Nat} {v : Int32} (h : SiI sh n) (hv : inB v (-1) 7 = true) : SiI (upd sh j v) n := by
  intro q hq
  by_cases e : q = j
  · rw [show upd sh j v q = v by simp [upd, e]]
    exact m1_7 hv
  · rw [show upd sh j v q = sh q by simp [upd, e]]
    exact h q hq
theorem hvI_of {hd rl : Nat → Int32} {ro : Nat → Int64} {hv : Nat → Value} {rc : Nat → AC} {n : Nat} (h : ShC hd rl ro hv rc n) (hn : n ≤ 8) : HvI hv hd := by
  have ne : ∀ q, q < 20 → nI q ≠ -1 := by decide
  intro s hs
  rcases h s hs with z | ⟨k, m, f, h1, -, h3, -, h5, -⟩ | ⟨x, h1, h2, h3⟩
  · exact Or.inl ⟨z.2, z.1⟩
  · exact Or.inr ⟨⟨_, h5⟩, by rw [h3]; exact ne k (by omega)⟩
  · exact Or.inr ⟨⟨_, h3⟩, by rw [h2]; exact ne (10 + x) (by omega)⟩
theorem in16 {v : Int32} {j : Nat} (h1 : 2 ≤ j) (h2 : j ≤ 6) (e : v = nI (10 + j)) : inB v 12 16 = true := by
  have : ∀ j, j < 7 → 2 ≤ j → inB (nI (10 + j)) 12 16 = true := by decide
  rw [e]
  exact this j (by omega) h1
theorem law_19 {L : Nat} {xs : Nat → Int32} {k i ce sl : Nat} {h : AHp} (hi : i + 6 ≤ L) (hLL : L < 1000) (hce : ce ≤ 593672) (hsl : sl ≤ 7149314) (hC : Can k h) (hG : GoL L xs k i ce sl) : RchX (ScP L xs) JL ce sl 926 [some (.ref 4), some (.ref 1), some (.ref 0), some (.int (nI i))] [] h := by
  obtain ⟨th, kd, ow, ag, lk, co, sh, hs, tp, hd, rl, ro, rf, ol, ah, tr, od, tk, fo, wi, ou, ge, mo, ev, se, fr, to, tn, va, im, lo, iv, tP, tL, tA, tK, tC, tS, tH, tN, tE, tZ, tf, mP, mf, eP, eT, eF, ef, eg, ew, rx, gx, wx, hv, rc, ic, pf, lc, n, t, kN, rfl, hcp⟩ := hC
  obtain ⟨hn, htk, hLk, hP, hHs, hSi, hSh, hIm, hFx⟩ := hcp
  have hLI := lkI_of hn hLk
  obtain ⟨hk, ho⟩ := lkH_of hLk
  have hNn := nl_none n
  by_cases hb : (inB (xs (i + 1)) 0 (allS n) && inB (xs (i + 2)) 0 (bcF (xs (i + 1)) - 1)) = true
  · refine x_aload_n dL_law_926 rfl ?_
    refine x_aload_n dL_law_927 rfl ?_
    refine x_iload_n dL_law_928 rfl ?_
    refine x_iconst 1 dL_law_929 (by decide) ?_
    refine x_iadd dL_law_930 ?_
    refine x_sldE (j := i + 1) dL_law_931 (nI_add i 1) (by omega) hLL ?_
    refine x_aload_n dL_law_932 rfl ?_
    refine x_iload_n dL_law_933 rfl ?_
    refine x_iconst 2 dL_law_934 (by decide) ?_
    refine x_iadd dL_law_935 ?_
    refine x_sldE (j := i + 2) dL_law_936 (nI_add i 2) (by omega) hLL ?_
    refine x_callV (as := [_, _]) okX0_order bX0 rfl rfl q1271 dL_law_937 (Nat.le_of_ble_eq_true rfl) rfl (Nat.le_of_ble_eq_true rfl) (by show _ ≤ 603072; omega) (by show _ ≤ 7262314; omega) (pX0_order hn (fun z => absurd (hb.symm.trans z) (by decide)) (fun b1 q1 hq1 e1 => ?_))
    intros
    refine x_aload_n dL_law_940 rfl ?_
    refine x_aload_n dL_law_941 rfl ?_
    refine x_iload_n dL_law_942 rfl ?_
    refine x_iconst 1 dL_law_943 (by decide) ?_
    refine x_iadd dL_law_944 ?_
    refine x_sldE (j := i + 1) dL_law_945 (nI_add i 1) (by omega) hLL ?_
    refine x_aload_n dL_law_946 rfl ?_
    refine x_iload_n dL_law_947 rfl ?_
    refine x_iconst 2 dL_law_948 (by decide) ?_
    refine x_iadd dL_law_949 ?_
    refine x_sldE (j := i + 2) dL_law_950 (nI_add i 2) (by omega) hLL ?_
    refine x_callV (as := [_, _]) okX5_order bX5 rfl rfl q1848 dL_law_951 (Nat.le_of_ble_eq_true rfl) rfl (Nat.le_of_ble_eq_true rfl) (by show _ ≤ 603072; omega) (by show _ ≤ 7262314; omega) (pX5_order hn (fun z => absurd (hb.symm.trans z) (by decide)) (fun b2 q2 hq2 e2 => ?_))
    intros
    have l1 := ordL_len ag (xs (i + 1)) n
    obtain rfl := nJ (by omega) (by omega) e1 e2
    refine x_icmp_eq 1712 dL_law_954 (by decide) (fun _ => ?_) (fun c_ => absurd (rfl) c_)
    exact go_fin (kN := kN) hG ⟨hn, by omega, hLk, hP, hHs, hSi, hSh, hIm, hFx⟩ (by omega) (by omega)
  · refine x_aload_n dL_law_926 rfl ?_
    refine x_aload_n dL_law_927 rfl ?_
    refine x_iload_n dL_law_928 rfl ?_
    refine x_iconst 1 dL_law_929 (by decide) ?_
    refine x_iadd dL_law_930 ?_
    refine x_sldE (j := i + 1) dL_law_931 (nI_add i 1) (by omega) hLL ?_
    refine x_aload_n dL_law_932 rfl ?_
    refine x_iload_n dL_law_933 rfl ?_
    refine x_iconst 2 dL_law_934 (by decide) ?_
    refine x_iadd dL_law_935 ?_
    refine x_sldE (j := i + 2) dL_law_936 (nI_add i 2) (by omega) hLL ?_
    refine x_callV (as := [_, _]) okX0_order bX0 rfl rfl q1271 dL_law_937 (Nat.le_of_ble_eq_true rfl) rfl (Nat.le_of_ble_eq_true rfl) (by show _ ≤ 603072; omega) (by show _ ≤ 7262314; omega) (pX0_order hn (fun _ => ?_) (fun b q hq e => absurd (by rw [b, ordIn hn b hq e] <;> rfl) hb))
    intros
    refine x_aload_n dL_law_940 rfl ?_
    refine x_aload_n dL_law_941 rfl ?_
    refine x_iload_n dL_law_942 rfl ?_
    refine x_iconst 1 dL_law_943 (by decide) ?_
    refine x_iadd dL_law_944 ?_
    refine x_sldE (j := i + 1) dL_law_945 (nI_add i 1) (by omega) hLL ?_
    refine x_aload_n dL_law_946 rfl ?_
    refine x_iload_n dL_law_947 rfl ?_
    refine x_iconst 2 dL_law_948 (by decide) ?_
    refine x_iadd dL_law_949 ?_
    refine x_sldE (j := i + 2) dL_law_950 (nI_add i 2) (by omega) hLL ?_
    refine x_callV (as := [_, _]) okX5_order bX5 rfl rfl q1848 dL_law_951 (Nat.le_of_ble_eq_true rfl) rfl (Nat.le_of_ble_eq_true rfl) (by show _ ≤ 603072; omega) (by show _ ≤ 7262314; omega) (pX5_order hn (fun _ => ?_) (fun b q hq e => absurd (by rw [b, ordIn hn b hq e] <;> rfl) hb))
    intros
    refine x_icmp_eq 1712 dL_law_954 (by decide) (fun _ => ?_) (fun c_ => absurd (rfl) c_)
    exact go_fin (kN := kN) hG ⟨hn, by omega, hLk, hP, hHs, hSi, hSh, hIm, hFx⟩ (by omega) (by omega)
theorem law_11 {L : Nat} {xs : Nat → Int32} {k i ce sl : Nat} {h : AHp} (hk64 : k ≤ 64) (hi : i + 6 ≤ L) (hLL : L < 1000) (hce : ce ≤ 593672) (hsl : sl ≤ 7149314) (hC : Can k h) (hG : GoL L xs k i ce sl) : RchX (ScP L xs) JL ce sl 732 [some (.ref 4), some (.ref 1), some (.ref 0), some (.int (nI i))] [] h := by
  obtain ⟨th, kd, ow, ag, lk, co, sh, hs, tp, hd, rl, ro, rf, ol, ah, tr, od, tk, fo, wi, ou, ge, mo, ev, se, fr, to, tn, va, im, lo, iv, tP, tL, tA, tK, tC, tS, tH, tN, tE, tZ, tf, mP, mf, eP, eT, eF, ef, eg, ew, rx, gx, wx, hv, rc, ic, pf, lc, n, t, kN, rfl, hcp⟩ := hC
  obtain ⟨hn, htk, hLk, hP, hHs, hSi, hSh, hIm, hFx⟩ := hcp
  have hLI := lkI_of hn hLk
  obtain ⟨hk, ho⟩ := lkH_of hLk
  have hNn := nl_none n
  have ht250 : t ≤ 250 := by omega
  have ht251 : ¬ t = 250 := by omega
  by_cases hb : inB (xs (i + 1)) 0 255 = true
  · refine x_aload_n dL_law_732 rfl ?_
    refine x_aload_n dL_law_733 rfl ?_
    refine x_iload_n dL_law_734 rfl ?_
    refine x_iconst 1 dL_law_735 (by decide) ?_
    refine x_iadd dL_law_736 ?_
    refine x_sldE (j := i + 1) dL_law_737 (nI_add i 1) (by omega) hLL ?_
    refine x_callV (as := [_]) okX0_feed bX0 rfl rfl q979 dL_law_738 (Nat.le_of_ble_eq_true rfl) rfl (Nat.le_of_ble_eq_true rfl) (by show _ ≤ 603072; omega) (by show _ ≤ 7262314; omega) (pX0_feed ht250 (fun z => absurd (hb.symm.trans z) (by decide)) (fun _ z => absurd z ht251) (fun b1 h1 => ?_))
    intros
    refine x_aload_n dL_law_741 rfl ?_
    refine x_aload_n dL_law_742 rfl ?_
    refine x_iload_n dL_law_743 rfl ?_
    refine x_iconst 1 dL_law_744 (by decide) ?_
    refine x_iadd dL_law_745 ?_
    refine x_sldE (j := i + 1) dL_law_746 (nI_add i 1) (by omega) hLL ?_
    refine x_callV (as := [_]) okX5_feed bX5 rfl rfl q1752 dL_law_747 (Nat.le_of_ble_eq_true rfl) rfl (Nat.le_of_ble_eq_true rfl) (by show _ ≤ 603072; omega) (by show _ ≤ 7262314; omega) (pX5_feed ht250 (fun z => absurd (hb.symm.trans z) (by decide)) (fun _ z => absurd z ht251) (fun b2 h2 => ?_))
    intros
    refine x_icmp_eq 1712 dL_law_750 (by decide) (fun _ => ?_) (fun c_ => absurd (rfl) c_)
    exact go_fin (kN := kN) hG ⟨hn, by omega, hLk, hP, hHs, hSi, hSh, hIm, hFx⟩ (by omega) (by omega)
  · refine x_aload_n dL_law_732 rfl ?_
    refine x_aload_n dL_law_733 rfl ?_
    refine x_iload_n dL_law_734 rfl ?_
    refine x_iconst 1 dL_law_735 (by decide) ?_
    refine x_iadd dL_law_736 ?_
    refine x_sldE (j := i + 1) dL_law_737 (nI_add i 1) (by omega) hLL ?_
    refine x_callV (as := [_]) okX0_feed bX0 rfl rfl q979 dL_law_738 (Nat.le_of_ble_eq_true rfl) rfl (Nat.le_of_ble_eq_true rfl) (by show _ ≤ 603072; omega) (by show _ ≤ 7262314; omega) (pX0_feed ht250 (fun _ => ?_) (fun b _ => absurd b hb) (fun b _ => absurd b hb))
    intros
    refine x_aload_n dL_law_741 rfl ?_
    refine x_aload_n dL_law_742 rfl ?_
    refine x_iload_n dL_law_743 rfl ?_
    refine x_iconst 1 dL_law_744 (by decide) ?_
    refine x_iadd dL_law_745 ?_
    refine x_sldE (j := i + 1) dL_law_746 (nI_add i 1) (by omega) hLL ?_
    refine x_callV (as := [_]) okX5_feed bX5 rfl rfl q1752 dL_law_747 (Nat.le_of_ble_eq_true rfl) rfl (Nat.le_of_ble_eq_true rfl) (by show _ ≤ 603072; omega) (by show _ ≤ 7262314; omega) (pX5_feed ht250 (fun _ => ?_) (fun b _ => absurd b hb) (fun b _ => absurd b hb))
    intros
    refine x_icmp_eq 1712 dL_law_750 (by decide) (fun _ => ?_) (fun c_ => absurd (rfl) c_)
    exact go_fin (kN := kN) hG ⟨hn, by omega, hLk, hP, hHs, hSi, hSh, hIm, hFx⟩ (by omega) (by omega)
theorem law_10 {L : Nat} {xs : Nat → Int32} {k i ce sl : Nat} {h : AHp} (hi : i + 6 ≤ L) (hLL : L < 1000) (hce : ce ≤ 593672) (hsl : sl ≤ 7149314) (hC : Can k h) (hG : GoL L xs k i ce sl) : RchX (ScP L xs) JL ce sl 689 [some (.ref 4), some (.ref 1), some (.ref 0), some (.int (nI i))] [] h := by
  obtain ⟨th, kd, ow, ag, lk, co, sh, hs, tp, hd, rl, ro, rf, ol, ah, tr, od, tk, fo, wi, ou, ge, mo, ev, se, fr, to, tn, va, im, lo, iv, tP, tL, tA, tK, tC, tS, tH, tN, tE, tZ, tf, mP, mf, eP, eT, eF, ef, eg, ew, rx, gx, wx, hv, rc, ic, pf, lc, n, t, kN, rfl, hcp⟩ := hC
  obtain ⟨hn, htk, hLk, hP, hHs, hSi, hSh, hIm, hFx⟩ := hcp
  have hLI := lkI_of hn hLk
  obtain ⟨hk, ho⟩ := lkH_of hLk
  have hNn := nl_none n
  by_cases hb : (inB (xs (i + 1)) 0 (nI n - 1) && tellB (xs (i + 2)) (xs (i + 3))) = true
  · have hb2 : tellB (xs (i + 2)) (xs (i + 3)) = true := by
      rw [Bool.and_eq_true] at hb
      exact hb.2
    rcases tell_w hb2 with hw | hw | hw
    · refine x_aload_n dL_law_689 rfl ?_
      refine x_aload_n dL_law_690 rfl ?_
      refine x_iload_n dL_law_691 rfl ?_
      refine x_iconst 1 dL_law_692 (by decide) ?_
      refine x_iadd dL_law_693 ?_
      refine x_sldE (j := i + 1) dL_law_694 (nI_add i 1) (by omega) hLL ?_
      refine x_aload_n dL_law_695 rfl ?_
      refine x_iload_n dL_law_696 rfl ?_
      refine x_iconst 2 dL_law_697 (by decide) ?_
      refine x_iadd dL_law_698 ?_
      refine x_sldE (j := i + 2) dL_law_699 (nI_add i 2) (by omega) hLL ?_
      refine x_aload_n dL_law_700 rfl ?_
      refine x_iload_n dL_law_701 rfl ?_
      refine x_iconst 3 dL_law_702 (by decide) ?_
      refine x_iadd dL_law_703 ?_
      refine x_sldE (j := i + 3) dL_law_704 (nI_add i 3) (by omega) hLL ?_
      refine x_callV (as := [_, _, _]) okX0_tell bX0 rfl rfl q975 dL_law_705 (Nat.le_of_ble_eq_true rfl) rfl (Nat.le_of_ble_eq_true rfl) (by show _ ≤ 603072; omega) (by show _ ≤ 7262314; omega) (pX0_tell hn (fun z => absurd (hb.symm.trans z) (by decide)) (fun j1 hj1 e1 w1 b1 => ?_) (fun _ _ _ w _ => absurd (hw.symm.trans w) (by decide)) (fun _ _ _ w _ => absurd (hw.symm.trans w) (by decide)))
      intros
      refine x_aload_n dL_law_708 rfl ?_
      refine x_aload_n dL_law_709 rfl ?_
      refine x_iload_n dL_law_710 rfl ?_
      refine x_iconst 1 dL_law_711 (by decide) ?_
      refine x_iadd dL_law_712 ?_
      refine x_sldE (j := i + 1) dL_law_713 (nI_add i 1) (by omega) hLL ?_
      refine x_aload_n dL_law_714 rfl ?_
      refine x_iload_n dL_law_715 rfl ?_
      refine x_iconst 2 dL_law_716 (by decide) ?_
      refine x_iadd dL_law_717 ?_
      refine x_sldE (j := i + 2) dL_law_718 (nI_add i 2) (by omega) hLL ?_
      refine x_aload_n dL_law_719 rfl ?_
      refine x_iload_n dL_law_720 rfl ?_
      refine x_iconst 3 dL_law_721 (by decide) ?_
      refine x_iadd dL_law_722 ?_
      refine x_sldE (j := i + 3) dL_law_723 (nI_add i 3) (by omega) hLL ?_
      refine x_callV (as := [_, _, _]) okX5_tell bX5 rfl rfl q1748 dL_law_724 (Nat.le_of_ble_eq_true rfl) rfl (Nat.le_of_ble_eq_true rfl) (by show _ ≤ 603072; omega) (by show _ ≤ 7262314; omega) (pX5_tell hn (fun z => absurd (hb.symm.trans z) (by decide)) (fun j2 hj2 e2 w1 b1 => ?_) (fun _ _ _ w _ => absurd (hw.symm.trans w) (by decide)) (fun _ _ _ w _ => absurd (hw.symm.trans w) (by decide)))
      intros
      obtain rfl := nJ (by omega) (by omega) e1 e2
      refine x_icmp_eq 1712 dL_law_727 (by decide) (fun _ => ?_) (fun c_ => absurd (rfl) c_)
      exact go_fin (kN := kN) hG ⟨hn, by omega, hLk, hP, hHs, hSi, hSh, hIm, hFx⟩ (by omega) (by omega)
    · refine x_aload_n dL_law_689 rfl ?_
      refine x_aload_n dL_law_690 rfl ?_
      refine x_iload_n dL_law_691 rfl ?_
      refine x_iconst 1 dL_law_692 (by decide) ?_
      refine x_iadd dL_law_693 ?_
      refine x_sldE (j := i + 1) dL_law_694 (nI_add i 1) (by omega) hLL ?_
      refine x_aload_n dL_law_695 rfl ?_
      refine x_iload_n dL_law_696 rfl ?_
      refine x_iconst 2 dL_law_697 (by decide) ?_
      refine x_iadd dL_law_698 ?_
      refine x_sldE (j := i + 2) dL_law_699 (nI_add i 2) (by omega) hLL ?_
      refine x_aload_n dL_law_700 rfl ?_
      refine x_iload_n dL_law_701 rfl ?_
      refine x_iconst 3 dL_law_702 (by decide) ?_
      refine x_iadd dL_law_703 ?_
      refine x_sldE (j := i + 3) dL_law_704 (nI_add i 3) (by omega) hLL ?_
      refine x_callV (as := [_, _, _]) okX0_tell bX0 rfl rfl q975 dL_law_705 (Nat.le_of_ble_eq_true rfl) rfl (Nat.le_of_ble_eq_true rfl) (by show _ ≤ 603072; omega) (by show _ ≤ 7262314; omega) (pX0_tell hn (fun z => absurd (hb.symm.trans z) (by decide)) (fun _ _ _ w _ => absurd (hw.symm.trans w) (by decide)) (fun j1 hj1 e1 w1 b1 => ?_) (fun _ _ _ w _ => absurd (hw.symm.trans w) (by decide)))
      intros
      refine x_aload_n dL_law_708 rfl ?_
      refine x_aload_n dL_law_709 rfl ?_
      refine x_iload_n dL_law_710 rfl ?_
      refine x_iconst 1 dL_law_711 (by decide) ?_
      refine x_iadd dL_law_712 ?_
      refine x_sldE (j := i + 1) dL_law_713 (nI_add i 1) (by omega) hLL ?_
      refine x_aload_n dL_law_714 rfl ?_
      refine x_iload_n dL_law_715 rfl ?_
      refine x_iconst 2 dL_law_716 (by decide) ?_
      refine x_iadd dL_law_717 ?_
      refine x_sldE (j := i + 2) dL_law_718 (nI_add i 2) (by omega) hLL ?_
      refine x_aload_n dL_law_719 rfl ?_
      refine x_iload_n dL_law_720 rfl ?_
      refine x_iconst 3 dL_law_721 (by decide) ?_
      refine x_iadd dL_law_722 ?_
      refine x_sldE (j := i + 3) dL_law_723 (nI_add i 3) (by omega) hLL ?_
      refine x_callV (as := [_, _, _]) okX5_tell bX5 rfl rfl q1748 dL_law_724 (Nat.le_of_ble_eq_true rfl) rfl (Nat.le_of_ble_eq_true rfl) (by show _ ≤ 603072; omega) (by show _ ≤ 7262314; omega) (pX5_tell hn (fun z => absurd (hb.symm.trans z) (by decide)) (fun _ _ _ w _ => absurd (hw.symm.trans w) (by decide)) (fun j2 hj2 e2 w1 b1 => ?_) (fun _ _ _ w _ => absurd (hw.symm.trans w) (by decide)))
      intros
      obtain rfl := nJ (by omega) (by omega) e1 e2
      refine x_icmp_eq 1712 dL_law_727 (by decide) (fun _ => ?_) (fun c_ => absurd (rfl) c_)
      exact go_fin (kN := kN) hG ⟨hn, by omega, hLk, hP, hHs, hSi, hSh, hIm, hFx⟩ (by omega) (by omega)
    · refine x_aload_n dL_law_689 rfl ?_
      refine x_aload_n dL_law_690 rfl ?_
      refine x_iload_n dL_law_691 rfl ?_
      refine x_iconst 1 dL_law_692 (by decide) ?_
      refine x_iadd dL_law_693 ?_
      refine x_sldE (j := i + 1) dL_law_694 (nI_add i 1) (by omega) hLL ?_
      refine x_aload_n dL_law_695 rfl ?_
      refine x_iload_n dL_law_696 rfl ?_
      refine x_iconst 2 dL_law_697 (by decide) ?_
      refine x_iadd dL_law_698 ?_
      refine x_sldE (j := i + 2) dL_law_699 (nI_add i 2) (by omega) hLL ?_
      refine x_aload_n dL_law_700 rfl ?_
      refine x_iload_n dL_law_701 rfl ?_
      refine x_iconst 3 dL_law_702 (by decide) ?_
      refine x_iadd dL_law_703 ?_
      refine x_sldE (j := i + 3) dL_law_704 (nI_add i 3) (by omega) hLL ?_
      refine x_callV (as := [_, _, _]) okX0_tell bX0 rfl rfl q975 dL_law_705 (Nat.le_of_ble_eq_true rfl) rfl (Nat.le_of_ble_eq_true rfl) (by show _ ≤ 603072; omega) (by show _ ≤ 7262314; omega) (pX0_tell hn (fun z => absurd (hb.symm.trans z) (by decide)) (fun _ _ _ w _ => absurd (hw.symm.trans w) (by decide)) (fun _ _ _ w _ => absurd (hw.symm.trans w) (by decide)) (fun j1 hj1 e1 w1 b1 => ?_))
      intros
      refine x_aload_n dL_law_708 rfl ?_
      refine x_aload_n dL_law_709 rfl ?_
      refine x_iload_n dL_law_710 rfl ?_
      refine x_iconst 1 dL_law_711 (by decide) ?_
      refine x_iadd dL_law_712 ?_
      refine x_sldE (j := i + 1) dL_law_713 (nI_add i 1) (by omega) hLL ?_
      refine x_aload_n dL_law_714 rfl ?_
      refine x_iload_n dL_law_715 rfl ?_
      refine x_iconst 2 dL_law_716 (by decide) ?_
      refine x_iadd dL_law_717 ?_
      refine x_sldE (j := i + 2) dL_law_718 (nI_add i 2) (by omega) hLL ?_
      refine x_aload_n dL_law_719 rfl ?_
      refine x_iload_n dL_law_720 rfl ?_
      refine x_iconst 3 dL_law_721 (by decide) ?_
      refine x_iadd dL_law_722 ?_
      refine x_sldE (j := i + 3) dL_law_723 (nI_add i 3) (by omega) hLL ?_
      refine x_callV (as := [_, _, _]) okX5_tell bX5 rfl rfl q1748 dL_law_724 (Nat.le_of_ble_eq_true rfl) rfl (Nat.le_of_ble_eq_true rfl) (by show _ ≤ 603072; omega) (by show _ ≤ 7262314; omega) (pX5_tell hn (fun z => absurd (hb.symm.trans z) (by decide)) (fun _ _ _ w _ => absurd (hw.symm.trans w) (by decide)) (fun _ _ _ w _ => absurd (hw.symm.trans w) (by decide)) (fun j2 hj2 e2 w1 b1 => ?_))
      intros
      obtain rfl := nJ (by omega) (by omega) e1 e2
      refine x_icmp_eq 1712 dL_law_727 (by decide) (fun _ => ?_) (fun c_ => absurd (rfl) c_)
      exact go_fin (kN := kN) hG ⟨hn, by omega, hLk, hP, hHs, siI_upd hSi b1, hSh, hIm, hFx⟩ (by omega) (by omega)
  · refine x_aload_n dL_law_689 rfl ?_
    refine x_aload_n dL_law_690 rfl ?_
    refine x_iload_n dL_law_691 rfl ?_
    refine x_iconst 1 dL_law_692 (by decide) ?_
    refine x_iadd dL_law_693 ?_
    refine x_sldE (j := i + 1) dL_law_694 (nI_add i 1) (by omega) hLL ?_
    refine x_aload_n dL_law_695 rfl ?_
    refine x_iload_n dL_law_696 rfl ?_
    refine x_iconst 2 dL_law_697 (by decide) ?_
    refine x_iadd dL_law_698 ?_
    refine x_sldE (j := i + 2) dL_law_699 (nI_add i 2) (by omega) hLL ?_
    refine x_aload_n dL_law_700 rfl ?_
    refine x_iload_n dL_law_701 rfl ?_
    refine x_iconst 3 dL_law_702 (by decide) ?_
    refine x_iadd dL_law_703 ?_
    refine x_sldE (j := i + 3) dL_law_704 (nI_add i 3) (by omega) hLL ?_
    refine x_callV (as := [_, _, _]) okX0_tell bX0 rfl rfl q975 dL_law_705 (Nat.le_of_ble_eq_true rfl) rfl (Nat.le_of_ble_eq_true rfl) (by show _ ≤ 603072; omega) (by show _ ≤ 7262314; omega) (pX0_tell hn (fun _ => ?_) (fun j hj e w b => absurd (by rw [inL hj hn e, tell_is0 w b] <;> rfl) hb) (fun j hj e w b => absurd (by rw [inL hj hn e, tell_is1 w b] <;> rfl) hb) (fun j hj e w b => absurd (by rw [inL hj hn e, tell_is2 w b] <;> rfl) hb))
    intros
    refine x_aload_n dL_law_708 rfl ?_
    refine x_aload_n dL_law_709 rfl ?_
    refine x_iload_n dL_law_710 rfl ?_
    refine x_iconst 1 dL_law_711 (by decide) ?_
    refine x_iadd dL_law_712 ?_
    refine x_sldE (j := i + 1) dL_law_713 (nI_add i 1) (by omega) hLL ?_
    refine x_aload_n dL_law_714 rfl ?_
    refine x_iload_n dL_law_715 rfl ?_
    refine x_iconst 2 dL_law_716 (by decide) ?_
    refine x_iadd dL_law_717 ?_
    refine x_sldE (j := i + 2) dL_law_718 (nI_add i 2) (by omega) hLL ?_
    refine x_aload_n dL_law_719 rfl ?_
    refine x_iload_n dL_law_720 rfl ?_
    refine x_iconst 3 dL_law_721 (by decide) ?_
    refine x_iadd dL_law_722 ?_
    refine x_sldE (j := i + 3) dL_law_723 (nI_add i 3) (by omega) hLL ?_
    refine x_callV (as := [_, _, _]) okX5_tell bX5 rfl rfl q1748 dL_law_724 (Nat.le_of_ble_eq_true rfl) rfl (Nat.le_of_ble_eq_true rfl) (by show _ ≤ 603072; omega) (by show _ ≤ 7262314; omega) (pX5_tell hn (fun _ => ?_) (fun j hj e w b => absurd (by rw [inL hj hn e, tell_is0 w b] <;> rfl) hb) (fun j hj e w b => absurd (by rw [inL hj hn e, tell_is1 w b] <;> rfl) hb) (fun j hj e w b => absurd (by rw [inL hj hn e, tell_is2 w b] <;> rfl) hb))
    intros
    refine x_icmp_eq 1712 dL_law_727 (by decide) (fun _ => ?_) (fun c_ => absurd (rfl) c_)
    exact go_fin (kN := kN) hG ⟨hn, by omega, hLk, hP, hHs, hSi, hSh, hIm, hFx⟩ (by omega) (by omega)
theorem law_50 {L : Nat} {xs : Nat → Int32} {k i ce sl : Nat} {h : AHp} (hi : i + 6 ≤ L) (hLL : L < 1000) (hce : ce ≤ 593672) (hsl : sl ≤ 7149314) (hC : Can k h) (hG : GoL L xs k i ce sl) : RchX (ScP L xs) JL ce sl 1689 [some (.ref 4), some (.ref 1), some (.ref 0), some (.int (nI i))] [] h := by
  obtain ⟨th, kd, ow, ag, lk, co, sh, hs, tp, hd, rl, ro, rf, ol, ah, tr, od, tk, fo, wi, ou, ge, mo, ev, se, fr, to, tn, va, im, lo, iv, tP, tL, tA, tK, tC, tS, tH, tN, tE, tZ, tf, mP, mf, eP, eT, eF, ef, eg, ew, rx, gx, wx, hv, rc, ic, pf, lc, n, t, kN, rfl, hcp⟩ := hC
  obtain ⟨hn, htk, hLk, hP, hHs, hSi, hSh, hIm, hFx⟩ := hcp
  have hLI := lkI_of hn hLk
  obtain ⟨hk, ho⟩ := lkH_of hLk
  have hNn := nl_none n
  by_cases hw0 : xs (i + 1) = 0
  · refine x_aload_n dL_law_1689 rfl ?_
    refine x_aload_n dL_law_1690 rfl ?_
    refine x_iload_n dL_law_1691 rfl ?_
    refine x_iconst 1 dL_law_1692 (by decide) ?_
    refine x_iadd dL_law_1693 ?_
    refine x_sldE (j := i + 1) dL_law_1694 (nI_add i 1) (by omega) hLL ?_
    rw [hw0]
    refine x_callV (as := [_]) okX0_status bX0 rfl rfl q1501 dL_law_1695 (Nat.le_of_ble_eq_true rfl) rfl (Nat.le_of_ble_eq_true rfl) (by show _ ≤ 603072; omega) (by show _ ≤ 7262314; omega) (pX0_status_0 ?_)
    intros
    refine x_aload_n dL_law_1698 rfl ?_
    refine x_aload_n dL_law_1699 rfl ?_
    refine x_iload_n dL_law_1700 rfl ?_
    refine x_iconst 1 dL_law_1701 (by decide) ?_
    refine x_iadd dL_law_1702 ?_
    refine x_sldE (j := i + 1) dL_law_1703 (nI_add i 1) (by omega) hLL ?_
    rw [hw0]
    refine x_callV (as := [_]) okX5_status bX5 rfl rfl q2042 dL_law_1704 (Nat.le_of_ble_eq_true rfl) rfl (Nat.le_of_ble_eq_true rfl) (by show _ ≤ 603072; omega) (by show _ ≤ 7262314; omega) (pX5_status_0 ?_)
    intros
    refine x_icmp_eq 1712 dL_law_1707 (by decide) (fun _ => ?_) (fun c_ => absurd (rfl) c_)
    exact go_fin (kN := kN) hG ⟨hn, by omega, hLk, hP, hHs, hSi, hSh, hIm, hFx⟩ (by omega) (by omega)
  by_cases hw1 : xs (i + 1) = 1
  · refine x_aload_n dL_law_1689 rfl ?_
    refine x_aload_n dL_law_1690 rfl ?_
    refine x_iload_n dL_law_1691 rfl ?_
    refine x_iconst 1 dL_law_1692 (by decide) ?_
    refine x_iadd dL_law_1693 ?_
    refine x_sldE (j := i + 1) dL_law_1694 (nI_add i 1) (by omega) hLL ?_
    rw [hw1]
    refine x_callV (as := [_]) okX0_status bX0 rfl rfl q1501 dL_law_1695 (Nat.le_of_ble_eq_true rfl) rfl (Nat.le_of_ble_eq_true rfl) (by show _ ≤ 603072; omega) (by show _ ≤ 7262314; omega) (pX0_status_1 ?_)
    intros
    refine x_aload_n dL_law_1698 rfl ?_
    refine x_aload_n dL_law_1699 rfl ?_
    refine x_iload_n dL_law_1700 rfl ?_
    refine x_iconst 1 dL_law_1701 (by decide) ?_
    refine x_iadd dL_law_1702 ?_
    refine x_sldE (j := i + 1) dL_law_1703 (nI_add i 1) (by omega) hLL ?_
    rw [hw1]
    refine x_callV (as := [_]) okX5_status bX5 rfl rfl q2042 dL_law_1704 (Nat.le_of_ble_eq_true rfl) rfl (Nat.le_of_ble_eq_true rfl) (by show _ ≤ 603072; omega) (by show _ ≤ 7262314; omega) (pX5_status_1 ?_)
    intros
    refine x_icmp_eq 1712 dL_law_1707 (by decide) (fun _ => ?_) (fun c_ => absurd (rfl) c_)
    exact go_fin (kN := kN) hG ⟨hn, by omega, hLk, hP, hHs, hSi, hSh, hIm, hFx⟩ (by omega) (by omega)
  by_cases hw2 : xs (i + 1) = 2
  · refine x_aload_n dL_law_1689 rfl ?_
    refine x_aload_n dL_law_1690 rfl ?_
    refine x_iload_n dL_law_1691 rfl ?_
    refine x_iconst 1 dL_law_1692 (by decide) ?_
    refine x_iadd dL_law_1693 ?_
    refine x_sldE (j := i + 1) dL_law_1694 (nI_add i 1) (by omega) hLL ?_
    rw [hw2]
    refine x_callV (as := [_]) okX0_status bX0 rfl rfl q1501 dL_law_1695 (Nat.le_of_ble_eq_true rfl) rfl (Nat.le_of_ble_eq_true rfl) (by show _ ≤ 603072; omega) (by show _ ≤ 7262314; omega) (pX0_status_2 hn ?_)
    intros
    refine x_aload_n dL_law_1698 rfl ?_
    refine x_aload_n dL_law_1699 rfl ?_
    refine x_iload_n dL_law_1700 rfl ?_
    refine x_iconst 1 dL_law_1701 (by decide) ?_
    refine x_iadd dL_law_1702 ?_
    refine x_sldE (j := i + 1) dL_law_1703 (nI_add i 1) (by omega) hLL ?_
    rw [hw2]
    refine x_callV (as := [_]) okX5_status bX5 rfl rfl q2042 dL_law_1704 (Nat.le_of_ble_eq_true rfl) rfl (Nat.le_of_ble_eq_true rfl) (by show _ ≤ 603072; omega) (by show _ ≤ 7262314; omega) (pX5_status_2 hn ?_)
    intros
    refine x_icmp_eq 1712 dL_law_1707 (by decide) (fun _ => ?_) (fun c_ => absurd (rfl) c_)
    exact go_fin (kN := kN) hG ⟨hn, by omega, hLk, hP, hHs, hSi, hSh, hIm, hFx⟩ (by omega) (by omega)
  by_cases hw3 : xs (i + 1) = 3
  · refine x_aload_n dL_law_1689 rfl ?_
    refine x_aload_n dL_law_1690 rfl ?_
    refine x_iload_n dL_law_1691 rfl ?_
    refine x_iconst 1 dL_law_1692 (by decide) ?_
    refine x_iadd dL_law_1693 ?_
    refine x_sldE (j := i + 1) dL_law_1694 (nI_add i 1) (by omega) hLL ?_
    rw [hw3]
    refine x_callV (as := [_]) okX0_status bX0 rfl rfl q1501 dL_law_1695 (Nat.le_of_ble_eq_true rfl) rfl (Nat.le_of_ble_eq_true rfl) (by show _ ≤ 603072; omega) (by show _ ≤ 7262314; omega) (pX0_status_3 ?_)
    intros
    refine x_aload_n dL_law_1698 rfl ?_
    refine x_aload_n dL_law_1699 rfl ?_
    refine x_iload_n dL_law_1700 rfl ?_
    refine x_iconst 1 dL_law_1701 (by decide) ?_
    refine x_iadd dL_law_1702 ?_
    refine x_sldE (j := i + 1) dL_law_1703 (nI_add i 1) (by omega) hLL ?_
    rw [hw3]
    refine x_callV (as := [_]) okX5_status bX5 rfl rfl q2042 dL_law_1704 (Nat.le_of_ble_eq_true rfl) rfl (Nat.le_of_ble_eq_true rfl) (by show _ ≤ 603072; omega) (by show _ ≤ 7262314; omega) (pX5_status_3 ?_)
    intros
    refine x_icmp_eq 1712 dL_law_1707 (by decide) (fun _ => ?_) (fun c_ => absurd (rfl) c_)
    exact go_fin (kN := kN) hG ⟨hn, by omega, hLk, hP, hHs, hSi, hSh, hIm, hFx⟩ (by omega) (by omega)
  by_cases hw4 : xs (i + 1) = 4
  · refine x_aload_n dL_law_1689 rfl ?_
    refine x_aload_n dL_law_1690 rfl ?_
    refine x_iload_n dL_law_1691 rfl ?_
    refine x_iconst 1 dL_law_1692 (by decide) ?_
    refine x_iadd dL_law_1693 ?_
    refine x_sldE (j := i + 1) dL_law_1694 (nI_add i 1) (by omega) hLL ?_
    rw [hw4]
    refine x_callV (as := [_]) okX0_status bX0 rfl rfl q1501 dL_law_1695 (Nat.le_of_ble_eq_true rfl) rfl (Nat.le_of_ble_eq_true rfl) (by show _ ≤ 603072; omega) (by show _ ≤ 7262314; omega) (pX0_status_4 hn ?_)
    intros
    refine x_aload_n dL_law_1698 rfl ?_
    refine x_aload_n dL_law_1699 rfl ?_
    refine x_iload_n dL_law_1700 rfl ?_
    refine x_iconst 1 dL_law_1701 (by decide) ?_
    refine x_iadd dL_law_1702 ?_
    refine x_sldE (j := i + 1) dL_law_1703 (nI_add i 1) (by omega) hLL ?_
    rw [hw4]
    refine x_callV (as := [_]) okX5_status bX5 rfl rfl q2042 dL_law_1704 (Nat.le_of_ble_eq_true rfl) rfl (Nat.le_of_ble_eq_true rfl) (by show _ ≤ 603072; omega) (by show _ ≤ 7262314; omega) (pX5_status_4 hn ?_)
    intros
    refine x_icmp_eq 1712 dL_law_1707 (by decide) (fun _ => ?_) (fun c_ => absurd (rfl) c_)
    exact go_fin (kN := kN) hG ⟨hn, by omega, hLk, hP, hHs, hSi, hSh, hIm, hFx⟩ (by omega) (by omega)
  by_cases hw5 : xs (i + 1) = 5
  · refine x_aload_n dL_law_1689 rfl ?_
    refine x_aload_n dL_law_1690 rfl ?_
    refine x_iload_n dL_law_1691 rfl ?_
    refine x_iconst 1 dL_law_1692 (by decide) ?_
    refine x_iadd dL_law_1693 ?_
    refine x_sldE (j := i + 1) dL_law_1694 (nI_add i 1) (by omega) hLL ?_
    rw [hw5]
    refine x_callV (as := [_]) okX0_status bX0 rfl rfl q1501 dL_law_1695 (Nat.le_of_ble_eq_true rfl) rfl (Nat.le_of_ble_eq_true rfl) (by show _ ≤ 603072; omega) (by show _ ≤ 7262314; omega) (pX0_status_5 ?_)
    intros
    refine x_aload_n dL_law_1698 rfl ?_
    refine x_aload_n dL_law_1699 rfl ?_
    refine x_iload_n dL_law_1700 rfl ?_
    refine x_iconst 1 dL_law_1701 (by decide) ?_
    refine x_iadd dL_law_1702 ?_
    refine x_sldE (j := i + 1) dL_law_1703 (nI_add i 1) (by omega) hLL ?_
    rw [hw5]
    refine x_callV (as := [_]) okX5_status bX5 rfl rfl q2042 dL_law_1704 (Nat.le_of_ble_eq_true rfl) rfl (Nat.le_of_ble_eq_true rfl) (by show _ ≤ 603072; omega) (by show _ ≤ 7262314; omega) (pX5_status_5 ?_)
    intros
    refine x_icmp_eq 1712 dL_law_1707 (by decide) (fun _ => ?_) (fun c_ => absurd (rfl) c_)
    exact go_fin (kN := kN) hG ⟨hn, by omega, hLk, hP, hHs, hSi, hSh, hIm, hFx⟩ (by omega) (by omega)
  by_cases hw6 : xs (i + 1) = 6
  · refine x_aload_n dL_law_1689 rfl ?_
    refine x_aload_n dL_law_1690 rfl ?_
    refine x_iload_n dL_law_1691 rfl ?_
    refine x_iconst 1 dL_law_1692 (by decide) ?_
    refine x_iadd dL_law_1693 ?_
    refine x_sldE (j := i + 1) dL_law_1694 (nI_add i 1) (by omega) hLL ?_
    rw [hw6]
    refine x_callV (as := [_]) okX0_status bX0 rfl rfl q1501 dL_law_1695 (Nat.le_of_ble_eq_true rfl) rfl (Nat.le_of_ble_eq_true rfl) (by show _ ≤ 603072; omega) (by show _ ≤ 7262314; omega) (pX0_status_6 ?_)
    intros
    refine x_aload_n dL_law_1698 rfl ?_
    refine x_aload_n dL_law_1699 rfl ?_
    refine x_iload_n dL_law_1700 rfl ?_
    refine x_iconst 1 dL_law_1701 (by decide) ?_
    refine x_iadd dL_law_1702 ?_
    refine x_sldE (j := i + 1) dL_law_1703 (nI_add i 1) (by omega) hLL ?_
    rw [hw6]
    refine x_callV (as := [_]) okX5_status bX5 rfl rfl q2042 dL_law_1704 (Nat.le_of_ble_eq_true rfl) rfl (Nat.le_of_ble_eq_true rfl) (by show _ ≤ 603072; omega) (by show _ ≤ 7262314; omega) (pX5_status_6 ?_)
    intros
    refine x_icmp_eq 1712 dL_law_1707 (by decide) (fun _ => ?_) (fun c_ => absurd (rfl) c_)
    exact go_fin (kN := kN) hG ⟨hn, by omega, hLk, hP, hHs, hSi, hSh, hIm, hFx⟩ (by omega) (by omega)
  by_cases hw7 : xs (i + 1) = 7
  · refine x_aload_n dL_law_1689 rfl ?_
    refine x_aload_n dL_law_1690 rfl ?_
    refine x_iload_n dL_law_1691 rfl ?_
    refine x_iconst 1 dL_law_1692 (by decide) ?_
    refine x_iadd dL_law_1693 ?_
    refine x_sldE (j := i + 1) dL_law_1694 (nI_add i 1) (by omega) hLL ?_
    rw [hw7]
    refine x_callV (as := [_]) okX0_status bX0 rfl rfl q1501 dL_law_1695 (Nat.le_of_ble_eq_true rfl) rfl (Nat.le_of_ble_eq_true rfl) (by show _ ≤ 603072; omega) (by show _ ≤ 7262314; omega) (pX0_status_7 (hvI_of hSh hn) ?_)
    intros
    refine x_aload_n dL_law_1698 rfl ?_
    refine x_aload_n dL_law_1699 rfl ?_
    refine x_iload_n dL_law_1700 rfl ?_
    refine x_iconst 1 dL_law_1701 (by decide) ?_
    refine x_iadd dL_law_1702 ?_
    refine x_sldE (j := i + 1) dL_law_1703 (nI_add i 1) (by omega) hLL ?_
    rw [hw7]
    refine x_callV (as := [_]) okX5_status bX5 rfl rfl q2042 dL_law_1704 (Nat.le_of_ble_eq_true rfl) rfl (Nat.le_of_ble_eq_true rfl) (by show _ ≤ 603072; omega) (by show _ ≤ 7262314; omega) (pX5_status_7 ?_)
    intros
    refine x_icmp_eq 1712 dL_law_1707 (by decide) (fun _ => ?_) (fun c_ => absurd (rfl) c_)
    exact go_fin (kN := kN) hG ⟨hn, by omega, hLk, hP, hHs, hSi, hSh, hIm, hFx⟩ (by omega) (by omega)
  have h8 : ∀ j, j < 8 → xs (i + 1) ≠ nI j := fun j hj e => by
    rcases (show j = 0 ∨ j = 1 ∨ j = 2 ∨ j = 3 ∨ j = 4 ∨ j = 5 ∨ j = 6 ∨ j = 7 by omega) with rfl | rfl | rfl | rfl | rfl | rfl | rfl | rfl
    · exact hw0 e
    · exact hw1 e
    · exact hw2 e
    · exact hw3 e
    · exact hw4 e
    · exact hw5 e
    · exact hw6 e
    · exact hw7 e
  by_cases hb : inB (xs (i + 1)) 12 16 = true
  · refine x_aload_n dL_law_1689 rfl ?_
    refine x_aload_n dL_law_1690 rfl ?_
    refine x_iload_n dL_law_1691 rfl ?_
    refine x_iconst 1 dL_law_1692 (by decide) ?_
    refine x_iadd dL_law_1693 ?_
    refine x_sldE (j := i + 1) dL_law_1694 (nI_add i 1) (by omega) hLL ?_
    refine x_callV (as := [_]) okX0_status bX0 rfl rfl q1501 dL_law_1695 (Nat.le_of_ble_eq_true rfl) rfl (Nat.le_of_ble_eq_true rfl) (by show _ ≤ 603072; omega) (by show _ ≤ 7262314; omega) (pX0_status_8 h8 (fun z => absurd (hb.symm.trans z) (by decide)) (fun j1 a1 c1 e1 => ?_))
    intros
    refine x_aload_n dL_law_1698 rfl ?_
    refine x_aload_n dL_law_1699 rfl ?_
    refine x_iload_n dL_law_1700 rfl ?_
    refine x_iconst 1 dL_law_1701 (by decide) ?_
    refine x_iadd dL_law_1702 ?_
    refine x_sldE (j := i + 1) dL_law_1703 (nI_add i 1) (by omega) hLL ?_
    refine x_callV (as := [_]) okX5_status bX5 rfl rfl q2042 dL_law_1704 (Nat.le_of_ble_eq_true rfl) rfl (Nat.le_of_ble_eq_true rfl) (by show _ ≤ 603072; omega) (by show _ ≤ 7262314; omega) (pX5_status_8 h8 (fun z => absurd (hb.symm.trans z) (by decide)) (fun j2 a2 c2 e2 => ?_))
    intros
    obtain rfl : j2 = j1 := by
      have := nJ (by omega) (by omega) e1 e2
      omega
    refine x_icmp_eq 1712 dL_law_1707 (by decide) (fun _ => ?_) (fun c_ => absurd (rfl) c_)
    exact go_fin (kN := kN) hG ⟨hn, by omega, hLk, hP, hHs, hSi, hSh, hIm, hFx⟩ (by omega) (by omega)
  · refine x_aload_n dL_law_1689 rfl ?_
    refine x_aload_n dL_law_1690 rfl ?_
    refine x_iload_n dL_law_1691 rfl ?_
    refine x_iconst 1 dL_law_1692 (by decide) ?_
    refine x_iadd dL_law_1693 ?_
    refine x_sldE (j := i + 1) dL_law_1694 (nI_add i 1) (by omega) hLL ?_
    refine x_callV (as := [_]) okX0_status bX0 rfl rfl q1501 dL_law_1695 (Nat.le_of_ble_eq_true rfl) rfl (Nat.le_of_ble_eq_true rfl) (by show _ ≤ 603072; omega) (by show _ ≤ 7262314; omega) (pX0_status_8 h8 (fun _ => ?_) (fun j a d e => absurd (in16 a d e) hb))
    intros
    refine x_aload_n dL_law_1698 rfl ?_
    refine x_aload_n dL_law_1699 rfl ?_
    refine x_iload_n dL_law_1700 rfl ?_
    refine x_iconst 1 dL_law_1701 (by decide) ?_
    refine x_iadd dL_law_1702 ?_
    refine x_sldE (j := i + 1) dL_law_1703 (nI_add i 1) (by omega) hLL ?_
    refine x_callV (as := [_]) okX5_status bX5 rfl rfl q2042 dL_law_1704 (Nat.le_of_ble_eq_true rfl) rfl (Nat.le_of_ble_eq_true rfl) (by show _ ≤ 603072; omega) (by show _ ≤ 7262314; omega) (pX5_status_8 h8 (fun _ => ?_) (fun j a d e => absurd (in16 a d e) hb))
    intros
    refine x_icmp_eq 1712 dL_law_1707 (by decide) (fun _ => ?_) (fun c_ => absurd (rfl) c_)
    exact go_fin (kN := kN) hG ⟨hn, by omega, hLk, hP, hHs, hSi, hSh, hIm, hFx⟩ (by omega) (by omega)
