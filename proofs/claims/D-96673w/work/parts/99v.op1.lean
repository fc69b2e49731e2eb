set_option maxRecDepth 100000
/-! the law's cases (printed by gen/ops.py) -/
theorem inP {p : Int32} {j : Nat} (hj : j < 12) (e : p = nI j) : inB p 0 11 = true := by rw [e]; exact inB_mI (m := 12) hj (by omega)
theorem law_16 {L : Nat} {xs : Nat → Int32} {k i ce sl : Nat} {h : AHp} (hi : i + 6 ≤ L) (hLL : L < 1000) (hce : ce ≤ 593672) (hsl : sl ≤ 7149314) (hC : Can k h) (hG : GoL L xs k i ce sl) : RchX (ScP L xs) JL ce sl 837 [some (.ref 4), some (.ref 1), some (.ref 0), some (.int (nI i))] [] h := by
  obtain ⟨th, kd, ow, ag, lk, co, sh, hs, tp, hd, rl, ro, rf, ol, ah, tr, od, tk, fo, wi, ou, ge, mo, ev, se, fr, to, tn, va, im, lo, iv, tP, tL, tA, tK, tC, tS, tH, tN, tE, tZ, tf, mP, mf, eP, eT, eF, ef, eg, ew, rx, gx, wx, hv, rc, ic, pf, lc, n, t, kN, rfl, hcp⟩ := hC
  obtain ⟨hn, htk, hLk, hP, hHs, hSi, hSh, hIm, hFx⟩ := hcp
  have hLI := lkI_of hn hLk
  obtain ⟨hk, ho⟩ := lkH_of hLk
  have hNn := nl_none n
  by_cases hb : inB (xs (i + 1)) 0 (allS n) = true
  · refine x_aload_n dL_law_837 rfl ?_
    refine x_aload_n dL_law_838 rfl ?_
    refine x_iload_n dL_law_839 rfl ?_
    refine x_iconst 1 dL_law_840 (by decide) ?_
    refine x_iadd dL_law_841 ?_
    refine x_sldE (j := i + 1) dL_law_842 (nI_add i 1) (by omega) hLL ?_
    refine x_callV (as := [_]) okX0_left bX0 rfl rfl q1215 dL_law_843 (Nat.le_of_ble_eq_true rfl) rfl (Nat.le_of_ble_eq_true rfl) (by show _ ≤ 603072; omega) (by show _ ≤ 7262314; omega) (pX0_left hn hLI hP (fun z => absurd (hb.symm.trans z) (by decide)) (fun b01 => ?_))
    intros
    refine x_aload_n dL_law_846 rfl ?_
    refine x_aload_n dL_law_847 rfl ?_
    refine x_iload_n dL_law_848 rfl ?_
    refine x_iconst 1 dL_law_849 (by decide) ?_
    refine x_iadd dL_law_850 ?_
    refine x_sldE (j := i + 1) dL_law_851 (nI_add i 1) (by omega) hLL ?_
    refine x_callV (as := [_]) okX5_left bX5 rfl rfl q1820 dL_law_852 (Nat.le_of_ble_eq_true rfl) rfl (Nat.le_of_ble_eq_true rfl) (by show _ ≤ 603072; omega) (by show _ ≤ 7262314; omega) (pX5_left hn hk ho (fun z => absurd (hb.symm.trans z) (by decide)) (fun b02 => ?_))
    intros
    refine x_icmp_eq 1712 dL_law_855 (by decide) (fun _ => ?_) (fun c_ => absurd (rfl) c_)
    exact go_fin (kN := kN) hG ⟨hn, by omega, hLk, hP, hHs, hSi, hSh, hIm, hFx⟩ (by omega) (by omega)
  · refine x_aload_n dL_law_837 rfl ?_
    refine x_aload_n dL_law_838 rfl ?_
    refine x_iload_n dL_law_839 rfl ?_
    refine x_iconst 1 dL_law_840 (by decide) ?_
    refine x_iadd dL_law_841 ?_
    refine x_sldE (j := i + 1) dL_law_842 (nI_add i 1) (by omega) hLL ?_
    refine x_callV (as := [_]) okX0_left bX0 rfl rfl q1215 dL_law_843 (Nat.le_of_ble_eq_true rfl) rfl (Nat.le_of_ble_eq_true rfl) (by show _ ≤ 603072; omega) (by show _ ≤ 7262314; omega) (pX0_left hn hLI hP (fun _ => ?_) (fun b01 => absurd (by rw [b01] <;> rfl) hb))
    intros
    refine x_aload_n dL_law_846 rfl ?_
    refine x_aload_n dL_law_847 rfl ?_
    refine x_iload_n dL_law_848 rfl ?_
    refine x_iconst 1 dL_law_849 (by decide) ?_
    refine x_iadd dL_law_850 ?_
    refine x_sldE (j := i + 1) dL_law_851 (nI_add i 1) (by omega) hLL ?_
    refine x_callV (as := [_]) okX5_left bX5 rfl rfl q1820 dL_law_852 (Nat.le_of_ble_eq_true rfl) rfl (Nat.le_of_ble_eq_true rfl) (by show _ ≤ 603072; omega) (by show _ ≤ 7262314; omega) (pX5_left hn hk ho (fun _ => ?_) (fun b02 => absurd (by rw [b02] <;> rfl) hb))
    intros
    refine x_icmp_eq 1712 dL_law_855 (by decide) (fun _ => ?_) (fun c_ => absurd (rfl) c_)
    exact go_fin (kN := kN) hG ⟨hn, by omega, hLk, hP, hHs, hSi, hSh, hIm, hFx⟩ (by omega) (by omega)
theorem law_17 {L : Nat} {xs : Nat → Int32} {k i ce sl : Nat} {h : AHp} (hi : i + 6 ≤ L) (hLL : L < 1000) (hce : ce ≤ 593672) (hsl : sl ≤ 7149314) (hC : Can k h) (hG : GoL L xs k i ce sl) : RchX (ScP L xs) JL ce sl 860 [some (.ref 4), some (.ref 1), some (.ref 0), some (.int (nI i))] [] h := by
  obtain ⟨th, kd, ow, ag, lk, co, sh, hs, tp, hd, rl, ro, rf, ol, ah, tr, od, tk, fo, wi, ou, ge, mo, ev, se, fr, to, tn, va, im, lo, iv, tP, tL, tA, tK, tC, tS, tH, tN, tE, tZ, tf, mP, mf, eP, eT, eF, ef, eg, ew, rx, gx, wx, hv, rc, ic, pf, lc, n, t, kN, rfl, hcp⟩ := hC
  obtain ⟨hn, htk, hLk, hP, hHs, hSi, hSh, hIm, hFx⟩ := hcp
  have hLI := lkI_of hn hLk
  obtain ⟨hk, ho⟩ := lkH_of hLk
  have hNn := nl_none n
  by_cases hb : (inB (xs (i + 1)) 0 (allS n) && inB (xs (i + 2)) 0 (nI n - 1)) = true
  · refine x_aload_n dL_law_860 rfl ?_
    refine x_aload_n dL_law_861 rfl ?_
    refine x_iload_n dL_law_862 rfl ?_
    refine x_iconst 1 dL_law_863 (by decide) ?_
    refine x_iadd dL_law_864 ?_
    refine x_sldE (j := i + 1) dL_law_865 (nI_add i 1) (by omega) hLL ?_
    refine x_aload_n dL_law_866 rfl ?_
    refine x_iload_n dL_law_867 rfl ?_
    refine x_iconst 2 dL_law_868 (by decide) ?_
    refine x_iadd dL_law_869 ?_
    refine x_sldE (j := i + 2) dL_law_870 (nI_add i 2) (by omega) hLL ?_
    refine x_callV (as := [_, _]) okX0_taken bX0 rfl rfl q1235 dL_law_871 (Nat.le_of_ble_eq_true rfl) rfl (Nat.le_of_ble_eq_true rfl) (by show _ ≤ 603072; omega) (by show _ ≤ 7262314; omega) (pX0_taken hn hLI hP (fun z => absurd (hb.symm.trans z) (by decide)) (fun b01 j11 hj11 e11 => ?_))
    intros
    refine x_aload_n dL_law_874 rfl ?_
    refine x_aload_n dL_law_875 rfl ?_
    refine x_iload_n dL_law_876 rfl ?_
    refine x_iconst 1 dL_law_877 (by decide) ?_
    refine x_iadd dL_law_878 ?_
    refine x_sldE (j := i + 1) dL_law_879 (nI_add i 1) (by omega) hLL ?_
    refine x_aload_n dL_law_880 rfl ?_
    refine x_iload_n dL_law_881 rfl ?_
    refine x_iconst 2 dL_law_882 (by decide) ?_
    refine x_iadd dL_law_883 ?_
    refine x_sldE (j := i + 2) dL_law_884 (nI_add i 2) (by omega) hLL ?_
    refine x_callV (as := [_, _]) okX5_taken bX5 rfl rfl q1832 dL_law_885 (Nat.le_of_ble_eq_true rfl) rfl (Nat.le_of_ble_eq_true rfl) (by show _ ≤ 603072; omega) (by show _ ≤ 7262314; omega) (pX5_taken hn hk ho (fun z => absurd (hb.symm.trans z) (by decide)) (fun b02 j12 hj12 e12 => ?_))
    intros
    obtain rfl := nJ (by omega) (by omega) e11 e12
    refine x_icmp_eq 1712 dL_law_888 (by decide) (fun _ => ?_) (fun c_ => absurd (rfl) c_)
    exact go_fin (kN := kN) hG ⟨hn, by omega, hLk, hP, hHs, hSi, hSh, hIm, hFx⟩ (by omega) (by omega)
  · refine x_aload_n dL_law_860 rfl ?_
    refine x_aload_n dL_law_861 rfl ?_
    refine x_iload_n dL_law_862 rfl ?_
    refine x_iconst 1 dL_law_863 (by decide) ?_
    refine x_iadd dL_law_864 ?_
    refine x_sldE (j := i + 1) dL_law_865 (nI_add i 1) (by omega) hLL ?_
    refine x_aload_n dL_law_866 rfl ?_
    refine x_iload_n dL_law_867 rfl ?_
    refine x_iconst 2 dL_law_868 (by decide) ?_
    refine x_iadd dL_law_869 ?_
    refine x_sldE (j := i + 2) dL_law_870 (nI_add i 2) (by omega) hLL ?_
    refine x_callV (as := [_, _]) okX0_taken bX0 rfl rfl q1235 dL_law_871 (Nat.le_of_ble_eq_true rfl) rfl (Nat.le_of_ble_eq_true rfl) (by show _ ≤ 603072; omega) (by show _ ≤ 7262314; omega) (pX0_taken hn hLI hP (fun _ => ?_) (fun b01 j11 hj11 e11 => absurd (by rw [b01, inL hj11 hn e11] <;> rfl) hb))
    intros
    refine x_aload_n dL_law_874 rfl ?_
    refine x_aload_n dL_law_875 rfl ?_
    refine x_iload_n dL_law_876 rfl ?_
    refine x_iconst 1 dL_law_877 (by decide) ?_
    refine x_iadd dL_law_878 ?_
    refine x_sldE (j := i + 1) dL_law_879 (nI_add i 1) (by omega) hLL ?_
    refine x_aload_n dL_law_880 rfl ?_
    refine x_iload_n dL_law_881 rfl ?_
    refine x_iconst 2 dL_law_882 (by decide) ?_
    refine x_iadd dL_law_883 ?_
    refine x_sldE (j := i + 2) dL_law_884 (nI_add i 2) (by omega) hLL ?_
    refine x_callV (as := [_, _]) okX5_taken bX5 rfl rfl q1832 dL_law_885 (Nat.le_of_ble_eq_true rfl) rfl (Nat.le_of_ble_eq_true rfl) (by show _ ≤ 603072; omega) (by show _ ≤ 7262314; omega) (pX5_taken hn hk ho (fun _ => ?_) (fun b02 j12 hj12 e12 => absurd (by rw [b02, inL hj12 hn e12] <;> rfl) hb))
    intros
    refine x_icmp_eq 1712 dL_law_888 (by decide) (fun _ => ?_) (fun c_ => absurd (rfl) c_)
    exact go_fin (kN := kN) hG ⟨hn, by omega, hLk, hP, hHs, hSi, hSh, hIm, hFx⟩ (by omega) (by omega)
theorem law_20 {L : Nat} {xs : Nat → Int32} {k i ce sl : Nat} {h : AHp} (hi : i + 6 ≤ L) (hLL : L < 1000) (hce : ce ≤ 593672) (hsl : sl ≤ 7149314) (hC : Can k h) (hG : GoL L xs k i ce sl) : RchX (ScP L xs) JL ce sl 959 [some (.ref 4), some (.ref 1), some (.ref 0), some (.int (nI i))] [] h := by
  obtain ⟨th, kd, ow, ag, lk, co, sh, hs, tp, hd, rl, ro, rf, ol, ah, tr, od, tk, fo, wi, ou, ge, mo, ev, se, fr, to, tn, va, im, lo, iv, tP, tL, tA, tK, tC, tS, tH, tN, tE, tZ, tf, mP, mf, eP, eT, eF, ef, eg, ew, rx, gx, wx, hv, rc, ic, pf, lc, n, t, kN, rfl, hcp⟩ := hC
  obtain ⟨hn, htk, hLk, hP, hHs, hSi, hSh, hIm, hFx⟩ := hcp
  have hLI := lkI_of hn hLk
  obtain ⟨hk, ho⟩ := lkH_of hLk
  have hNn := nl_none n
  by_cases hb : (inB (xs (i + 1)) 0 (nI n - 1) && inB (xs (i + 2)) 0 1) = true
  · refine x_aload_n dL_law_959 rfl ?_
    refine x_aload_n dL_law_960 rfl ?_
    refine x_iload_n dL_law_961 rfl ?_
    refine x_iconst 1 dL_law_962 (by decide) ?_
    refine x_iadd dL_law_963 ?_
    refine x_sldE (j := i + 1) dL_law_964 (nI_add i 1) (by omega) hLL ?_
    refine x_aload_n dL_law_965 rfl ?_
    refine x_iload_n dL_law_966 rfl ?_
    refine x_iconst 2 dL_law_967 (by decide) ?_
    refine x_iadd dL_law_968 ?_
    refine x_sldE (j := i + 2) dL_law_969 (nI_add i 2) (by omega) hLL ?_
    refine x_callV (as := [_, _]) okX0_away bX0 rfl rfl q1280 dL_law_970 (Nat.le_of_ble_eq_true rfl) rfl (Nat.le_of_ble_eq_true rfl) (by show _ ≤ 603072; omega) (by show _ ≤ 7262314; omega) (pX0_away hn hLI hP (fun z => absurd (hb.symm.trans z) (by decide)) (fun j01 hj01 e01 b11 => ?_))
    intros
    refine x_aload_n dL_law_973 rfl ?_
    refine x_aload_n dL_law_974 rfl ?_
    refine x_iload_n dL_law_975 rfl ?_
    refine x_iconst 1 dL_law_976 (by decide) ?_
    refine x_iadd dL_law_977 ?_
    refine x_sldE (j := i + 1) dL_law_978 (nI_add i 1) (by omega) hLL ?_
    refine x_aload_n dL_law_979 rfl ?_
    refine x_iload_n dL_law_980 rfl ?_
    refine x_iconst 2 dL_law_981 (by decide) ?_
    refine x_iadd dL_law_982 ?_
    refine x_sldE (j := i + 2) dL_law_983 (nI_add i 2) (by omega) hLL ?_
    refine x_callV (as := [_, _]) okX5_away bX5 rfl rfl q1853 dL_law_984 (Nat.le_of_ble_eq_true rfl) rfl (Nat.le_of_ble_eq_true rfl) (by show _ ≤ 603072; omega) (by show _ ≤ 7262314; omega) (pX5_away hn hk ho (fun z => absurd (hb.symm.trans z) (by decide)) (fun j02 hj02 e02 b12 => ?_))
    intros
    obtain rfl := nJ (by omega) (by omega) e01 e02
    refine x_icmp_eq 1712 dL_law_987 (by decide) (fun _ => ?_) (fun c_ => absurd (rfl) c_)
    exact go_fin (kN := kN) hG ⟨hn, by omega, hLk, hP, hHs, hSi, hSh, hIm, hFx⟩ (by omega) (by omega)
  · refine x_aload_n dL_law_959 rfl ?_
    refine x_aload_n dL_law_960 rfl ?_
    refine x_iload_n dL_law_961 rfl ?_
    refine x_iconst 1 dL_law_962 (by decide) ?_
    refine x_iadd dL_law_963 ?_
    refine x_sldE (j := i + 1) dL_law_964 (nI_add i 1) (by omega) hLL ?_
    refine x_aload_n dL_law_965 rfl ?_
    refine x_iload_n dL_law_966 rfl ?_
    refine x_iconst 2 dL_law_967 (by decide) ?_
    refine x_iadd dL_law_968 ?_
    refine x_sldE (j := i + 2) dL_law_969 (nI_add i 2) (by omega) hLL ?_
    refine x_callV (as := [_, _]) okX0_away bX0 rfl rfl q1280 dL_law_970 (Nat.le_of_ble_eq_true rfl) rfl (Nat.le_of_ble_eq_true rfl) (by show _ ≤ 603072; omega) (by show _ ≤ 7262314; omega) (pX0_away hn hLI hP (fun _ => ?_) (fun j01 hj01 e01 b11 => absurd (by rw [inL hj01 hn e01, b11] <;> rfl) hb))
    intros
    refine x_aload_n dL_law_973 rfl ?_
    refine x_aload_n dL_law_974 rfl ?_
    refine x_iload_n dL_law_975 rfl ?_
    refine x_iconst 1 dL_law_976 (by decide) ?_
    refine x_iadd dL_law_977 ?_
    refine x_sldE (j := i + 1) dL_law_978 (nI_add i 1) (by omega) hLL ?_
    refine x_aload_n dL_law_979 rfl ?_
    refine x_iload_n dL_law_980 rfl ?_
    refine x_iconst 2 dL_law_981 (by decide) ?_
    refine x_iadd dL_law_982 ?_
    refine x_sldE (j := i + 2) dL_law_983 (nI_add i 2) (by omega) hLL ?_
    refine x_callV (as := [_, _]) okX5_away bX5 rfl rfl q1853 dL_law_984 (Nat.le_of_ble_eq_true rfl) rfl (Nat.le_of_ble_eq_true rfl) (by show _ ≤ 603072; omega) (by show _ ≤ 7262314; omega) (pX5_away hn hk ho (fun _ => ?_) (fun j02 hj02 e02 b12 => absurd (by rw [inL hj02 hn e02, b12] <;> rfl) hb))
    intros
    refine x_icmp_eq 1712 dL_law_987 (by decide) (fun _ => ?_) (fun c_ => absurd (rfl) c_)
    exact go_fin (kN := kN) hG ⟨hn, by omega, hLk, hP, hHs, hSi, hSh, hIm, hFx⟩ (by omega) (by omega)
theorem law_21 {L : Nat} {xs : Nat → Int32} {k i ce sl : Nat} {h : AHp} (hi : i + 6 ≤ L) (hLL : L < 1000) (hce : ce ≤ 593672) (hsl : sl ≤ 7149314) (hC : Can k h) (hG : GoL L xs k i ce sl) : RchX (ScP L xs) JL ce sl 992 [some (.ref 4), some (.ref 1), some (.ref 0), some (.int (nI i))] [] h := by
  obtain ⟨th, kd, ow, ag, lk, co, sh, hs, tp, hd, rl, ro, rf, ol, ah, tr, od, tk, fo, wi, ou, ge, mo, ev, se, fr, to, tn, va, im, lo, iv, tP, tL, tA, tK, tC, tS, tH, tN, tE, tZ, tf, mP, mf, eP, eT, eF, ef, eg, ew, rx, gx, wx, hv, rc, ic, pf, lc, n, t, kN, rfl, hcp⟩ := hC
  obtain ⟨hn, htk, hLk, hP, hHs, hSi, hSh, hIm, hFx⟩ := hcp
  have hLI := lkI_of hn hLk
  obtain ⟨hk, ho⟩ := lkH_of hLk
  have hNn := nl_none n
  by_cases hb : (inB (xs (i + 1)) 0 (nI n) && inB (xs (i + 2)) 0 1) = true
  · refine x_aload_n dL_law_992 rfl ?_
    refine x_aload_n dL_law_993 rfl ?_
    refine x_iload_n dL_law_994 rfl ?_
    refine x_iconst 1 dL_law_995 (by decide) ?_
    refine x_iadd dL_law_996 ?_
    refine x_sldE (j := i + 1) dL_law_997 (nI_add i 1) (by omega) hLL ?_
    refine x_aload_n dL_law_998 rfl ?_
    refine x_iload_n dL_law_999 rfl ?_
    refine x_iconst 2 dL_law_1000 (by decide) ?_
    refine x_iadd dL_law_1001 ?_
    refine x_sldE (j := i + 2) dL_law_1002 (nI_add i 2) (by omega) hLL ?_
    refine x_callV (as := [_, _]) okX0_crowd bX0 rfl rfl q1288 dL_law_1003 (Nat.le_of_ble_eq_true rfl) rfl (Nat.le_of_ble_eq_true rfl) (by show _ ≤ 603072; omega) (by show _ ≤ 7262314; omega) (pX0_crowd hn hLI hP (fun z => absurd (hb.symm.trans z) (by decide)) (fun b01 b11 => ?_))
    intros
    refine x_aload_n dL_law_1006 rfl ?_
    refine x_aload_n dL_law_1007 rfl ?_
    refine x_iload_n dL_law_1008 rfl ?_
    refine x_iconst 1 dL_law_1009 (by decide) ?_
    refine x_iadd dL_law_1010 ?_
    refine x_sldE (j := i + 1) dL_law_1011 (nI_add i 1) (by omega) hLL ?_
    refine x_aload_n dL_law_1012 rfl ?_
    refine x_iload_n dL_law_1013 rfl ?_
    refine x_iconst 2 dL_law_1014 (by decide) ?_
    refine x_iadd dL_law_1015 ?_
    refine x_sldE (j := i + 2) dL_law_1016 (nI_add i 2) (by omega) hLL ?_
    refine x_callV (as := [_, _]) okX5_crowd bX5 rfl rfl q1857 dL_law_1017 (Nat.le_of_ble_eq_true rfl) rfl (Nat.le_of_ble_eq_true rfl) (by show _ ≤ 603072; omega) (by show _ ≤ 7262314; omega) (pX5_crowd hn hk ho (fun z => absurd (hb.symm.trans z) (by decide)) (fun b02 b12 => ?_))
    intros
    refine x_icmp_eq 1712 dL_law_1020 (by decide) (fun _ => ?_) (fun c_ => absurd (rfl) c_)
    exact go_fin (kN := kN) hG ⟨hn, by omega, hLk, hP, hHs, hSi, hSh, hIm, hFx⟩ (by omega) (by omega)
  · refine x_aload_n dL_law_992 rfl ?_
    refine x_aload_n dL_law_993 rfl ?_
    refine x_iload_n dL_law_994 rfl ?_
    refine x_iconst 1 dL_law_995 (by decide) ?_
    refine x_iadd dL_law_996 ?_
    refine x_sldE (j := i + 1) dL_law_997 (nI_add i 1) (by omega) hLL ?_
    refine x_aload_n dL_law_998 rfl ?_
    refine x_iload_n dL_law_999 rfl ?_
    refine x_iconst 2 dL_law_1000 (by decide) ?_
    refine x_iadd dL_law_1001 ?_
    refine x_sldE (j := i + 2) dL_law_1002 (nI_add i 2) (by omega) hLL ?_
    refine x_callV (as := [_, _]) okX0_crowd bX0 rfl rfl q1288 dL_law_1003 (Nat.le_of_ble_eq_true rfl) rfl (Nat.le_of_ble_eq_true rfl) (by show _ ≤ 603072; omega) (by show _ ≤ 7262314; omega) (pX0_crowd hn hLI hP (fun _ => ?_) (fun b01 b11 => absurd (by rw [b01, b11] <;> rfl) hb))
    intros
    refine x_aload_n dL_law_1006 rfl ?_
    refine x_aload_n dL_law_1007 rfl ?_
    refine x_iload_n dL_law_1008 rfl ?_
    refine x_iconst 1 dL_law_1009 (by decide) ?_
    refine x_iadd dL_law_1010 ?_
    refine x_sldE (j := i + 1) dL_law_1011 (nI_add i 1) (by omega) hLL ?_
    refine x_aload_n dL_law_1012 rfl ?_
    refine x_iload_n dL_law_1013 rfl ?_
    refine x_iconst 2 dL_law_1014 (by decide) ?_
    refine x_iadd dL_law_1015 ?_
    refine x_sldE (j := i + 2) dL_law_1016 (nI_add i 2) (by omega) hLL ?_
    refine x_callV (as := [_, _]) okX5_crowd bX5 rfl rfl q1857 dL_law_1017 (Nat.le_of_ble_eq_true rfl) rfl (Nat.le_of_ble_eq_true rfl) (by show _ ≤ 603072; omega) (by show _ ≤ 7262314; omega) (pX5_crowd hn hk ho (fun _ => ?_) (fun b02 b12 => absurd (by rw [b02, b12] <;> rfl) hb))
    intros
    refine x_icmp_eq 1712 dL_law_1020 (by decide) (fun _ => ?_) (fun c_ => absurd (rfl) c_)
    exact go_fin (kN := kN) hG ⟨hn, by omega, hLk, hP, hHs, hSi, hSh, hIm, hFx⟩ (by omega) (by omega)
theorem law_23 {L : Nat} {xs : Nat → Int32} {k i ce sl : Nat} {h : AHp} (hi : i + 6 ≤ L) (hLL : L < 1000) (hce : ce ≤ 593672) (hsl : sl ≤ 7149314) (hC : Can k h) (hG : GoL L xs k i ce sl) : RchX (ScP L xs) JL ce sl 1058 [some (.ref 4), some (.ref 1), some (.ref 0), some (.int (nI i))] [] h := by
  obtain ⟨th, kd, ow, ag, lk, co, sh, hs, tp, hd, rl, ro, rf, ol, ah, tr, od, tk, fo, wi, ou, ge, mo, ev, se, fr, to, tn, va, im, lo, iv, tP, tL, tA, tK, tC, tS, tH, tN, tE, tZ, tf, mP, mf, eP, eT, eF, ef, eg, ew, rx, gx, wx, hv, rc, ic, pf, lc, n, t, kN, rfl, hcp⟩ := hC
  obtain ⟨hn, htk, hLk, hP, hHs, hSi, hSh, hIm, hFx⟩ := hcp
  have hLI := lkI_of hn hLk
  obtain ⟨hk, ho⟩ := lkH_of hLk
  have hNn := nl_none n
  by_cases hb : (inB (xs (i + 1)) 0 4095 && inB (xs (i + 2)) 0 3) = true
  · refine x_aload_n dL_law_1058 rfl ?_
    refine x_aload_n dL_law_1059 rfl ?_
    refine x_iload_n dL_law_1060 rfl ?_
    refine x_iconst 1 dL_law_1061 (by decide) ?_
    refine x_iadd dL_law_1062 ?_
    refine x_sldE (j := i + 1) dL_law_1063 (nI_add i 1) (by omega) hLL ?_
    refine x_aload_n dL_law_1064 rfl ?_
    refine x_iload_n dL_law_1065 rfl ?_
    refine x_iconst 2 dL_law_1066 (by decide) ?_
    refine x_iadd dL_law_1067 ?_
    refine x_sldE (j := i + 2) dL_law_1068 (nI_add i 2) (by omega) hLL ?_
    refine x_callV (as := [_, _]) okX0_who bX0 rfl rfl q1349 dL_law_1069 (Nat.le_of_ble_eq_true rfl) rfl (Nat.le_of_ble_eq_true rfl) (by show _ ≤ 603072; omega) (by show _ ≤ 7262314; omega) (pX0_who hn hLI hP (fun z => absurd (hb.symm.trans z) (by decide)) (fun b01 b11 => ?_))
    intros
    refine x_aload_n dL_law_1072 rfl ?_
    refine x_aload_n dL_law_1073 rfl ?_
    refine x_iload_n dL_law_1074 rfl ?_
    refine x_iconst 1 dL_law_1075 (by decide) ?_
    refine x_iadd dL_law_1076 ?_
    refine x_sldE (j := i + 1) dL_law_1077 (nI_add i 1) (by omega) hLL ?_
    refine x_aload_n dL_law_1078 rfl ?_
    refine x_iload_n dL_law_1079 rfl ?_
    refine x_iconst 2 dL_law_1080 (by decide) ?_
    refine x_iadd dL_law_1081 ?_
    refine x_sldE (j := i + 2) dL_law_1082 (nI_add i 2) (by omega) hLL ?_
    refine x_callV (as := [_, _]) okX5_who bX5 rfl rfl q1869 dL_law_1083 (Nat.le_of_ble_eq_true rfl) rfl (Nat.le_of_ble_eq_true rfl) (by show _ ≤ 603072; omega) (by show _ ≤ 7262314; omega) (pX5_who hn hk ho (fun z => absurd (hb.symm.trans z) (by decide)) (fun b02 b12 => ?_))
    intros
    refine x_icmp_eq 1712 dL_law_1086 (by decide) (fun _ => ?_) (fun c_ => absurd (rfl) c_)
    exact go_fin (kN := kN) hG ⟨hn, by omega, hLk, hP, hHs, hSi, hSh, hIm, hFx⟩ (by omega) (by omega)
  · refine x_aload_n dL_law_1058 rfl ?_
    refine x_aload_n dL_law_1059 rfl ?_
    refine x_iload_n dL_law_1060 rfl ?_
    refine x_iconst 1 dL_law_1061 (by decide) ?_
    refine x_iadd dL_law_1062 ?_
    refine x_sldE (j := i + 1) dL_law_1063 (nI_add i 1) (by omega) hLL ?_
    refine x_aload_n dL_law_1064 rfl ?_
    refine x_iload_n dL_law_1065 rfl ?_
    refine x_iconst 2 dL_law_1066 (by decide) ?_
    refine x_iadd dL_law_1067 ?_
    refine x_sldE (j := i + 2) dL_law_1068 (nI_add i 2) (by omega) hLL ?_
    refine x_callV (as := [_, _]) okX0_who bX0 rfl rfl q1349 dL_law_1069 (Nat.le_of_ble_eq_true rfl) rfl (Nat.le_of_ble_eq_true rfl) (by show _ ≤ 603072; omega) (by show _ ≤ 7262314; omega) (pX0_who hn hLI hP (fun _ => ?_) (fun b01 b11 => absurd (by rw [b01, b11] <;> rfl) hb))
    intros
    refine x_aload_n dL_law_1072 rfl ?_
    refine x_aload_n dL_law_1073 rfl ?_
    refine x_iload_n dL_law_1074 rfl ?_
    refine x_iconst 1 dL_law_1075 (by decide) ?_
    refine x_iadd dL_law_1076 ?_
    refine x_sldE (j := i + 1) dL_law_1077 (nI_add i 1) (by omega) hLL ?_
    refine x_aload_n dL_law_1078 rfl ?_
    refine x_iload_n dL_law_1079 rfl ?_
    refine x_iconst 2 dL_law_1080 (by decide) ?_
    refine x_iadd dL_law_1081 ?_
    refine x_sldE (j := i + 2) dL_law_1082 (nI_add i 2) (by omega) hLL ?_
    refine x_callV (as := [_, _]) okX5_who bX5 rfl rfl q1869 dL_law_1083 (Nat.le_of_ble_eq_true rfl) rfl (Nat.le_of_ble_eq_true rfl) (by show _ ≤ 603072; omega) (by show _ ≤ 7262314; omega) (pX5_who hn hk ho (fun _ => ?_) (fun b02 b12 => absurd (by rw [b02, b12] <;> rfl) hb))
    intros
    refine x_icmp_eq 1712 dL_law_1086 (by decide) (fun _ => ?_) (fun c_ => absurd (rfl) c_)
    exact go_fin (kN := kN) hG ⟨hn, by omega, hLk, hP, hHs, hSi, hSh, hIm, hFx⟩ (by omega) (by omega)
theorem law_26 {L : Nat} {xs : Nat → Int32} {k i ce sl : Nat} {h : AHp} (hi : i + 6 ≤ L) (hLL : L < 1000) (hce : ce ≤ 593672) (hsl : sl ≤ 7149314) (hC : Can k h) (hG : GoL L xs k i ce sl) : RchX (ScP L xs) JL ce sl 1167 [some (.ref 4), some (.ref 1), some (.ref 0), some (.int (nI i))] [] h := by
  obtain ⟨th, kd, ow, ag, lk, co, sh, hs, tp, hd, rl, ro, rf, ol, ah, tr, od, tk, fo, wi, ou, ge, mo, ev, se, fr, to, tn, va, im, lo, iv, tP, tL, tA, tK, tC, tS, tH, tN, tE, tZ, tf, mP, mf, eP, eT, eF, ef, eg, ew, rx, gx, wx, hv, rc, ic, pf, lc, n, t, kN, rfl, hcp⟩ := hC
  obtain ⟨hn, htk, hLk, hP, hHs, hSi, hSh, hIm, hFx⟩ := hcp
  have hLI := lkI_of hn hLk
  obtain ⟨hk, ho⟩ := lkH_of hLk
  have hNn := nl_none n
  by_cases hb : inB (xs (i + 1)) 0 (nI n - 1) = true
  · refine x_aload_n dL_law_1167 rfl ?_
    refine x_aload_n dL_law_1168 rfl ?_
    refine x_iload_n dL_law_1169 rfl ?_
    refine x_iconst 1 dL_law_1170 (by decide) ?_
    refine x_iadd dL_law_1171 ?_
    refine x_sldE (j := i + 1) dL_law_1172 (nI_add i 1) (by omega) hLL ?_
    refine x_callV (as := [_]) okX0_likely bX0 rfl rfl q1379 dL_law_1173 (Nat.le_of_ble_eq_true rfl) rfl (Nat.le_of_ble_eq_true rfl) (by show _ ≤ 603072; omega) (by show _ ≤ 7262314; omega) (pX0_likely hn hLI hP (fun z => absurd (hb.symm.trans z) (by decide)) (fun j01 hj01 e01 => ?_))
    intros
    refine x_aload_n dL_law_1176 rfl ?_
    refine x_aload_n dL_law_1177 rfl ?_
    refine x_iload_n dL_law_1178 rfl ?_
    refine x_iconst 1 dL_law_1179 (by decide) ?_
    refine x_iadd dL_law_1180 ?_
    refine x_sldE (j := i + 1) dL_law_1181 (nI_add i 1) (by omega) hLL ?_
    refine x_callV (as := [_]) okX5_likely bX5 rfl rfl q1894 dL_law_1182 (Nat.le_of_ble_eq_true rfl) rfl (Nat.le_of_ble_eq_true rfl) (by show _ ≤ 603072; omega) (by show _ ≤ 7262314; omega) (pX5_likely hn hk ho (fun z => absurd (hb.symm.trans z) (by decide)) (fun j02 hj02 e02 => ?_))
    intros
    obtain rfl := nJ (by omega) (by omega) e01 e02
    refine x_icmp_eq 1712 dL_law_1185 (by decide) (fun _ => ?_) (fun c_ => absurd (rfl) c_)
    exact go_fin (kN := kN) hG ⟨hn, by omega, hLk, hP, hHs, hSi, hSh, hIm, hFx⟩ (by omega) (by omega)
  · refine x_aload_n dL_law_1167 rfl ?_
    refine x_aload_n dL_law_1168 rfl ?_
    refine x_iload_n dL_law_1169 rfl ?_
    refine x_iconst 1 dL_law_1170 (by decide) ?_
    refine x_iadd dL_law_1171 ?_
    refine x_sldE (j := i + 1) dL_law_1172 (nI_add i 1) (by omega) hLL ?_
    refine x_callV (as := [_]) okX0_likely bX0 rfl rfl q1379 dL_law_1173 (Nat.le_of_ble_eq_true rfl) rfl (Nat.le_of_ble_eq_true rfl) (by show _ ≤ 603072; omega) (by show _ ≤ 7262314; omega) (pX0_likely hn hLI hP (fun _ => ?_) (fun j01 hj01 e01 => absurd (by rw [inL hj01 hn e01] <;> rfl) hb))
    intros
    refine x_aload_n dL_law_1176 rfl ?_
    refine x_aload_n dL_law_1177 rfl ?_
    refine x_iload_n dL_law_1178 rfl ?_
    refine x_iconst 1 dL_law_1179 (by decide) ?_
    refine x_iadd dL_law_1180 ?_
    refine x_sldE (j := i + 1) dL_law_1181 (nI_add i 1) (by omega) hLL ?_
    refine x_callV (as := [_]) okX5_likely bX5 rfl rfl q1894 dL_law_1182 (Nat.le_of_ble_eq_true rfl) rfl (Nat.le_of_ble_eq_true rfl) (by show _ ≤ 603072; omega) (by show _ ≤ 7262314; omega) (pX5_likely hn hk ho (fun _ => ?_) (fun j02 hj02 e02 => absurd (by rw [inL hj02 hn e02] <;> rfl) hb))
    intros
    refine x_icmp_eq 1712 dL_law_1185 (by decide) (fun _ => ?_) (fun c_ => absurd (rfl) c_)
    exact go_fin (kN := kN) hG ⟨hn, by omega, hLk, hP, hHs, hSi, hSh, hIm, hFx⟩ (by omega) (by omega)
theorem law_27 {L : Nat} {xs : Nat → Int32} {k i ce sl : Nat} {h : AHp} (hi : i + 6 ≤ L) (hLL : L < 1000) (hce : ce ≤ 593672) (hsl : sl ≤ 7149314) (hC : Can k h) (hG : GoL L xs k i ce sl) : RchX (ScP L xs) JL ce sl 1190 [some (.ref 4), some (.ref 1), some (.ref 0), some (.int (nI i))] [] h := by
  obtain ⟨th, kd, ow, ag, lk, co, sh, hs, tp, hd, rl, ro, rf, ol, ah, tr, od, tk, fo, wi, ou, ge, mo, ev, se, fr, to, tn, va, im, lo, iv, tP, tL, tA, tK, tC, tS, tH, tN, tE, tZ, tf, mP, mf, eP, eT, eF, ef, eg, ew, rx, gx, wx, hv, rc, ic, pf, lc, n, t, kN, rfl, hcp⟩ := hC
  obtain ⟨hn, htk, hLk, hP, hHs, hSi, hSh, hIm, hFx⟩ := hcp
  have hLI := lkI_of hn hLk
  obtain ⟨hk, ho⟩ := lkH_of hLk
  have hNn := nl_none n
  by_cases hb : inB (xs (i + 1)) 0 8 = true
  · refine x_aload_n dL_law_1190 rfl ?_
    refine x_aload_n dL_law_1191 rfl ?_
    refine x_iload_n dL_law_1192 rfl ?_
    refine x_iconst 1 dL_law_1193 (by decide) ?_
    refine x_iadd dL_law_1194 ?_
    refine x_sldE (j := i + 1) dL_law_1195 (nI_add i 1) (by omega) hLL ?_
    refine x_callV (as := [_]) okX0_gladOdds bX0 rfl rfl q1383 dL_law_1196 (Nat.le_of_ble_eq_true rfl) rfl (Nat.le_of_ble_eq_true rfl) (by show _ ≤ 603072; omega) (by show _ ≤ 7262314; omega) (pX0_gladOdds hn hLI hP (fun z => absurd (hb.symm.trans z) (by decide)) (fun b01 => ?_))
    intros
    refine x_aload_n dL_law_1199 rfl ?_
    refine x_aload_n dL_law_1200 rfl ?_
    refine x_iload_n dL_law_1201 rfl ?_
    refine x_iconst 1 dL_law_1202 (by decide) ?_
    refine x_iadd dL_law_1203 ?_
    refine x_sldE (j := i + 1) dL_law_1204 (nI_add i 1) (by omega) hLL ?_
    refine x_callV (as := [_]) okX5_gladOdds bX5 rfl rfl q1898 dL_law_1205 (Nat.le_of_ble_eq_true rfl) rfl (Nat.le_of_ble_eq_true rfl) (by show _ ≤ 603072; omega) (by show _ ≤ 7262314; omega) (pX5_gladOdds hn hk ho (fun z => absurd (hb.symm.trans z) (by decide)) (fun b02 => ?_))
    intros
    refine x_icmp_eq 1712 dL_law_1208 (by decide) (fun _ => ?_) (fun c_ => absurd (rfl) c_)
    exact go_fin (kN := kN) hG ⟨hn, by omega, hLk, hP, hHs, hSi, hSh, hIm, hFx⟩ (by omega) (by omega)
  · refine x_aload_n dL_law_1190 rfl ?_
    refine x_aload_n dL_law_1191 rfl ?_
    refine x_iload_n dL_law_1192 rfl ?_
    refine x_iconst 1 dL_law_1193 (by decide) ?_
    refine x_iadd dL_law_1194 ?_
    refine x_sldE (j := i + 1) dL_law_1195 (nI_add i 1) (by omega) hLL ?_
    refine x_callV (as := [_]) okX0_gladOdds bX0 rfl rfl q1383 dL_law_1196 (Nat.le_of_ble_eq_true rfl) rfl (Nat.le_of_ble_eq_true rfl) (by show _ ≤ 603072; omega) (by show _ ≤ 7262314; omega) (pX0_gladOdds hn hLI hP (fun _ => ?_) (fun b01 => absurd (by rw [b01] <;> rfl) hb))
    intros
    refine x_aload_n dL_law_1199 rfl ?_
    refine x_aload_n dL_law_1200 rfl ?_
    refine x_iload_n dL_law_1201 rfl ?_
    refine x_iconst 1 dL_law_1202 (by decide) ?_
    refine x_iadd dL_law_1203 ?_
    refine x_sldE (j := i + 1) dL_law_1204 (nI_add i 1) (by omega) hLL ?_
    refine x_callV (as := [_]) okX5_gladOdds bX5 rfl rfl q1898 dL_law_1205 (Nat.le_of_ble_eq_true rfl) rfl (Nat.le_of_ble_eq_true rfl) (by show _ ≤ 603072; omega) (by show _ ≤ 7262314; omega) (pX5_gladOdds hn hk ho (fun _ => ?_) (fun b02 => absurd (by rw [b02] <;> rfl) hb))
    intros
    refine x_icmp_eq 1712 dL_law_1208 (by decide) (fun _ => ?_) (fun c_ => absurd (rfl) c_)
    exact go_fin (kN := kN) hG ⟨hn, by omega, hLk, hP, hHs, hSi, hSh, hIm, hFx⟩ (by omega) (by omega)
theorem law_28 {L : Nat} {xs : Nat → Int32} {k i ce sl : Nat} {h : AHp} (hi : i + 6 ≤ L) (hLL : L < 1000) (hce : ce ≤ 593672) (hsl : sl ≤ 7149314) (hC : Can k h) (hG : GoL L xs k i ce sl) : RchX (ScP L xs) JL ce sl 1213 [some (.ref 4), some (.ref 1), some (.ref 0), some (.int (nI i))] [] h := by
  obtain ⟨th, kd, ow, ag, lk, co, sh, hs, tp, hd, rl, ro, rf, ol, ah, tr, od, tk, fo, wi, ou, ge, mo, ev, se, fr, to, tn, va, im, lo, iv, tP, tL, tA, tK, tC, tS, tH, tN, tE, tZ, tf, mP, mf, eP, eT, eF, ef, eg, ew, rx, gx, wx, hv, rc, ic, pf, lc, n, t, kN, rfl, hcp⟩ := hC
  obtain ⟨hn, htk, hLk, hP, hHs, hSi, hSh, hIm, hFx⟩ := hcp
  have hLI := lkI_of hn hLk
  obtain ⟨hk, ho⟩ := lkH_of hLk
  have hNn := nl_none n
  refine x_aload_n dL_law_1213 rfl ?_
  refine x_callV (as := []) okX0_meanLeft bX0 rfl rfl q1387 dL_law_1214 (Nat.le_of_ble_eq_true rfl) rfl (Nat.le_of_ble_eq_true rfl) (by show _ ≤ 603072; omega) (by show _ ≤ 7262314; omega) (pX0_meanLeft hn hLI hP ?_)
  intros
  refine x_aload_n dL_law_1217 rfl ?_
  refine x_callV (as := []) okX5_meanLeft bX5 rfl rfl q1902 dL_law_1218 (Nat.le_of_ble_eq_true rfl) rfl (Nat.le_of_ble_eq_true rfl) (by show _ ≤ 603072; omega) (by show _ ≤ 7262314; omega) (pX5_meanLeft hn hk ho ?_)
  intros
  refine x_icmp_eq 1712 dL_law_1221 (by decide) (fun _ => ?_) (fun c_ => absurd (rfl) c_)
  exact go_fin (kN := kN) hG ⟨hn, by omega, hLk, hP, hHs, hSi, hSh, hIm, hFx⟩ (by omega) (by omega)
theorem law_32 {L : Nat} {xs : Nat → Int32} {k i ce sl : Nat} {h : AHp} (hi : i + 6 ≤ L) (hLL : L < 1000) (hce : ce ≤ 593672) (hsl : sl ≤ 7149314) (hC : Can k h) (hG : GoL L xs k i ce sl) : RchX (ScP L xs) JL ce sl 1305 [some (.ref 4), some (.ref 1), some (.ref 0), some (.int (nI i))] [] h := by
  obtain ⟨th, kd, ow, ag, lk, co, sh, hs, tp, hd, rl, ro, rf, ol, ah, tr, od, tk, fo, wi, ou, ge, mo, ev, se, fr, to, tn, va, im, lo, iv, tP, tL, tA, tK, tC, tS, tH, tN, tE, tZ, tf, mP, mf, eP, eT, eF, ef, eg, ew, rx, gx, wx, hv, rc, ic, pf, lc, n, t, kN, rfl, hcp⟩ := hC
  obtain ⟨hn, htk, hLk, hP, hHs, hSi, hSh, hIm, hFx⟩ := hcp
  have hLI := lkI_of hn hLk
  obtain ⟨hk, ho⟩ := lkH_of hLk
  have hNn := nl_none n
  refine x_aload_n dL_law_1305 rfl ?_
  refine x_callV (as := []) okX0_places bX0 rfl rfl q1258 dL_law_1306 (Nat.le_of_ble_eq_true rfl) rfl (Nat.le_of_ble_eq_true rfl) (by show _ ≤ 603072; omega) (by show _ ≤ 7262314; omega) (pX0_places (h2 := []) ?_)
  intros
  refine x_aload_n dL_law_1309 rfl ?_
  refine x_callV (as := []) okX5_places bX5 rfl rfl q1943 dL_law_1310 (Nat.le_of_ble_eq_true rfl) rfl (Nat.le_of_ble_eq_true rfl) (by show _ ≤ 603072; omega) (by show _ ≤ 7262314; omega) (pX5_places ?_)
  intros
  refine x_icmp_eq 1712 dL_law_1313 (by decide) (fun _ => ?_) (fun c_ => absurd (rfl) c_)
  exact go_fin (kN := kN) hG ⟨hn, by omega, hLk, hP, hHs, hSi, hSh, hIm, hFx⟩ (by omega) (by omega)
theorem law_33 {L : Nat} {xs : Nat → Int32} {k i ce sl : Nat} {h : AHp} (hi : i + 6 ≤ L) (hLL : L < 1000) (hce : ce ≤ 593672) (hsl : sl ≤ 7149314) (hC : Can k h) (hG : GoL L xs k i ce sl) : RchX (ScP L xs) JL ce sl 1318 [some (.ref 4), some (.ref 1), some (.ref 0), some (.int (nI i))] [] h := by
  obtain ⟨th, kd, ow, ag, lk, co, sh, hs, tp, hd, rl, ro, rf, ol, ah, tr, od, tk, fo, wi, ou, ge, mo, ev, se, fr, to, tn, va, im, lo, iv, tP, tL, tA, tK, tC, tS, tH, tN, tE, tZ, tf, mP, mf, eP, eT, eF, ef, eg, ew, rx, gx, wx, hv, rc, ic, pf, lc, n, t, kN, rfl, hcp⟩ := hC
  obtain ⟨hn, htk, hLk, hP, hHs, hSi, hSh, hIm, hFx⟩ := hcp
  have hLI := lkI_of hn hLk
  obtain ⟨hk, ho⟩ := lkH_of hLk
  have hNn := nl_none n
  by_cases hb : inB (xs (i + 1)) 0 (allS n) = true
  · refine x_aload_n dL_law_1318 rfl ?_
    refine x_aload_n dL_law_1319 rfl ?_
    refine x_iload_n dL_law_1320 rfl ?_
    refine x_iconst 1 dL_law_1321 (by decide) ?_
    refine x_iadd dL_law_1322 ?_
    refine x_sldE (j := i + 1) dL_law_1323 (nI_add i 1) (by omega) hLL ?_
    refine x_callV (as := [_]) okX0_gladOnes bX0 rfl rfl q1263 dL_law_1324 (Nat.le_of_ble_eq_true rfl) rfl (Nat.le_of_ble_eq_true rfl) (by show _ ≤ 603072; omega) (by show _ ≤ 7262314; omega) (pX0_gladOnes hn hLI hP (fun z => absurd (hb.symm.trans z) (by decide)) (fun b01 => ?_))
    intros
    refine x_aload_n dL_law_1327 rfl ?_
    refine x_aload_n dL_law_1328 rfl ?_
    refine x_iload_n dL_law_1329 rfl ?_
    refine x_iconst 1 dL_law_1330 (by decide) ?_
    refine x_iadd dL_law_1331 ?_
    refine x_sldE (j := i + 1) dL_law_1332 (nI_add i 1) (by omega) hLL ?_
    refine x_callV (as := [_]) okX5_gladOnes bX5 rfl rfl q1927 dL_law_1333 (Nat.le_of_ble_eq_true rfl) rfl (Nat.le_of_ble_eq_true rfl) (by show _ ≤ 603072; omega) (by show _ ≤ 7262314; omega) (pX5_gladOnes hn hk ho (fun z => absurd (hb.symm.trans z) (by decide)) (fun b02 => ?_))
    intros
    refine x_icmp_eq 1712 dL_law_1336 (by decide) (fun _ => ?_) (fun c_ => absurd (rfl) c_)
    exact go_fin (kN := kN) hG ⟨hn, by omega, hLk, hP, hHs, hSi, hSh, hIm, hFx⟩ (by omega) (by omega)
  · refine x_aload_n dL_law_1318 rfl ?_
    refine x_aload_n dL_law_1319 rfl ?_
    refine x_iload_n dL_law_1320 rfl ?_
    refine x_iconst 1 dL_law_1321 (by decide) ?_
    refine x_iadd dL_law_1322 ?_
    refine x_sldE (j := i + 1) dL_law_1323 (nI_add i 1) (by omega) hLL ?_
    refine x_callV (as := [_]) okX0_gladOnes bX0 rfl rfl q1263 dL_law_1324 (Nat.le_of_ble_eq_true rfl) rfl (Nat.le_of_ble_eq_true rfl) (by show _ ≤ 603072; omega) (by show _ ≤ 7262314; omega) (pX0_gladOnes hn hLI hP (fun _ => ?_) (fun b01 => absurd (by rw [b01] <;> rfl) hb))
    intros
    refine x_aload_n dL_law_1327 rfl ?_
    refine x_aload_n dL_law_1328 rfl ?_
    refine x_iload_n dL_law_1329 rfl ?_
    refine x_iconst 1 dL_law_1330 (by decide) ?_
    refine x_iadd dL_law_1331 ?_
    refine x_sldE (j := i + 1) dL_law_1332 (nI_add i 1) (by omega) hLL ?_
    refine x_callV (as := [_]) okX5_gladOnes bX5 rfl rfl q1927 dL_law_1333 (Nat.le_of_ble_eq_true rfl) rfl (Nat.le_of_ble_eq_true rfl) (by show _ ≤ 603072; omega) (by show _ ≤ 7262314; omega) (pX5_gladOnes hn hk ho (fun _ => ?_) (fun b02 => absurd (by rw [b02] <;> rfl) hb))
    intros
    refine x_icmp_eq 1712 dL_law_1336 (by decide) (fun _ => ?_) (fun c_ => absurd (rfl) c_)
    exact go_fin (kN := kN) hG ⟨hn, by omega, hLk, hP, hHs, hSi, hSh, hIm, hFx⟩ (by omega) (by omega)
theorem law_34 {L : Nat} {xs : Nat → Int32} {k i ce sl : Nat} {h : AHp} (hi : i + 6 ≤ L) (hLL : L < 1000) (hce : ce ≤ 593672) (hsl : sl ≤ 7149314) (hC : Can k h) (hG : GoL L xs k i ce sl) : RchX (ScP L xs) JL ce sl 1341 [some (.ref 4), some (.ref 1), some (.ref 0), some (.int (nI i))] [] h := by
  obtain ⟨th, kd, ow, ag, lk, co, sh, hs, tp, hd, rl, ro, rf, ol, ah, tr, od, tk, fo, wi, ou, ge, mo, ev, se, fr, to, tn, va, im, lo, iv, tP, tL, tA, tK, tC, tS, tH, tN, tE, tZ, tf, mP, mf, eP, eT, eF, ef, eg, ew, rx, gx, wx, hv, rc, ic, pf, lc, n, t, kN, rfl, hcp⟩ := hC
  obtain ⟨hn, htk, hLk, hP, hHs, hSi, hSh, hIm, hFx⟩ := hcp
  have hLI := lkI_of hn hLk
  obtain ⟨hk, ho⟩ := lkH_of hLk
  have hNn := nl_none n
  by_cases hb : inB (xs (i + 1)) 0 (allS n) = true
  · refine x_aload_n dL_law_1341 rfl ?_
    refine x_aload_n dL_law_1342 rfl ?_
    refine x_iload_n dL_law_1343 rfl ?_
    refine x_iconst 1 dL_law_1344 (by decide) ?_
    refine x_iadd dL_law_1345 ?_
    refine x_sldE (j := i + 1) dL_law_1346 (nI_add i 1) (by omega) hLL ?_
    refine x_callV (as := [_]) okX0_empty bX0 rfl rfl q1267 dL_law_1347 (Nat.le_of_ble_eq_true rfl) rfl (Nat.le_of_ble_eq_true rfl) (by show _ ≤ 603072; omega) (by show _ ≤ 7262314; omega) (pX0_empty hn hLI hP (fun z => absurd (hb.symm.trans z) (by decide)) (fun b01 => ?_))
    intros
    refine x_aload_n dL_law_1350 rfl ?_
    refine x_aload_n dL_law_1351 rfl ?_
    refine x_iload_n dL_law_1352 rfl ?_
    refine x_iconst 1 dL_law_1353 (by decide) ?_
    refine x_iadd dL_law_1354 ?_
    refine x_sldE (j := i + 1) dL_law_1355 (nI_add i 1) (by omega) hLL ?_
    refine x_callV (as := [_]) okX5_empty bX5 rfl rfl q1907 dL_law_1356 (Nat.le_of_ble_eq_true rfl) rfl (Nat.le_of_ble_eq_true rfl) (by show _ ≤ 603072; omega) (by show _ ≤ 7262314; omega) (pX5_empty hn hk ho (fun z => absurd (hb.symm.trans z) (by decide)) (fun b02 => ?_))
    intros
    refine x_icmp_eq 1712 dL_law_1359 (by decide) (fun _ => ?_) (fun c_ => absurd (rfl) c_)
    exact go_fin (kN := kN) hG ⟨hn, by omega, hLk, hP, hHs, hSi, hSh, hIm, hFx⟩ (by omega) (by omega)
  · refine x_aload_n dL_law_1341 rfl ?_
    refine x_aload_n dL_law_1342 rfl ?_
    refine x_iload_n dL_law_1343 rfl ?_
    refine x_iconst 1 dL_law_1344 (by decide) ?_
    refine x_iadd dL_law_1345 ?_
    refine x_sldE (j := i + 1) dL_law_1346 (nI_add i 1) (by omega) hLL ?_
    refine x_callV (as := [_]) okX0_empty bX0 rfl rfl q1267 dL_law_1347 (Nat.le_of_ble_eq_true rfl) rfl (Nat.le_of_ble_eq_true rfl) (by show _ ≤ 603072; omega) (by show _ ≤ 7262314; omega) (pX0_empty hn hLI hP (fun _ => ?_) (fun b01 => absurd (by rw [b01] <;> rfl) hb))
    intros
    refine x_aload_n dL_law_1350 rfl ?_
    refine x_aload_n dL_law_1351 rfl ?_
    refine x_iload_n dL_law_1352 rfl ?_
    refine x_iconst 1 dL_law_1353 (by decide) ?_
    refine x_iadd dL_law_1354 ?_
    refine x_sldE (j := i + 1) dL_law_1355 (nI_add i 1) (by omega) hLL ?_
    refine x_callV (as := [_]) okX5_empty bX5 rfl rfl q1907 dL_law_1356 (Nat.le_of_ble_eq_true rfl) rfl (Nat.le_of_ble_eq_true rfl) (by show _ ≤ 603072; omega) (by show _ ≤ 7262314; omega) (pX5_empty hn hk ho (fun _ => ?_) (fun b02 => absurd (by rw [b02] <;> rfl) hb))
    intros
    refine x_icmp_eq 1712 dL_law_1359 (by decide) (fun _ => ?_) (fun c_ => absurd (rfl) c_)
    exact go_fin (kN := kN) hG ⟨hn, by omega, hLk, hP, hHs, hSi, hSh, hIm, hFx⟩ (by omega) (by omega)
