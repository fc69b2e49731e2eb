set_option maxRecDepth 100000
/-! the law's cases (printed by gen/ops.py) -/
theorem m1_7 {v : Int32} (h : inB v (-1) 7 = true) : v = -1 ∨ ∃ s, s < 8 ∧ v = nI s := by
  unfold inB at h
  simp only [Bool.and_eq_true, decide_eq_true_eq] at h
  by_cases g : v = -1
  · exact Or.inl g
  · refine Or.inr (inB_m (m := 8) ?_ (by omega))
    unfold inB
    have h1 : (0 : Int32) ≤ v := by
      rw [Int32.le_iff_toInt_le]
      have h2 : (-1 : Int32).toInt ≤ v.toInt := Int32.le_iff_toInt_le.mp h.1
      have h3 : v.toInt ≠ (-1 : Int32).toInt := fun e => g (Int32.toInt_inj.mp e)
      have h4 : (-1 : Int32).toInt = -1 := by decide
      rw [h4] at h2 h3
      rw [Int32.toInt_zero]
      omega
    have h5 : v ≤ nI 8 - 1 := h.2
    simp only [h1, h5, decide_true, Bool.and_self]
theorem thI_upd {th : Nat → Int32} {j : Nat} {v : Int32} (h : ThI th) (hv : inB v (-1) 7 = true) : ThI (upd th j v) := by
  intro q hq
  by_cases e : q = j
  · rw [show upd th j v q = v by simp [upd, e]]
    exact m1_7 hv
  · rw [show upd th j v q = th q by simp [upd, e]]
    exact h q hq
theorem law_18 {L : Nat} {xs : Nat → Int32} {k i ce sl : Nat} {h : AHp} (hi : i + 6 ≤ L) (hLL : L < 1000) (hce : ce ≤ 593672) (hsl : sl ≤ 7149314) (hC : Can k h) (hG : GoL L xs k i ce sl) : RchX (ScP L xs) JL ce sl 893 [some (.ref 4), some (.ref 1), some (.ref 0), some (.int (nI i))] [] h := by
  obtain ⟨th, kd, ow, ag, lk, co, sh, hs, tp, hd, rl, ro, rf, ol, ah, tr, od, tk, fo, wi, ou, ge, mo, ev, se, fr, to, tn, va, im, lo, iv, tP, tL, tA, tK, tC, tS, tH, tN, tE, tZ, tf, mP, mf, eP, eT, eF, ef, eg, ew, rx, gx, wx, hv, rc, ic, pf, lc, n, t, kN, rfl, hcp⟩ := hC
  obtain ⟨hn, htk, hLk, hP, hHs, hSi, hSh, hIm, hFx⟩ := hcp
  have hLI := lkI_of hn hLk
  obtain ⟨hk, ho⟩ := lkH_of hLk
  have hNn := nl_none n
  by_cases hb : (inB (xs (i + 1)) 0 (allS n) && inB (xs (i + 2)) 0 1) = true
  · by_cases hw : xs (i + 2) = 0
    · refine x_aload_n dL_law_893 rfl ?_
      refine x_aload_n dL_law_894 rfl ?_
      refine x_iload_n dL_law_895 rfl ?_
      refine x_iconst 1 dL_law_896 (by decide) ?_
      refine x_iadd dL_law_897 ?_
      refine x_sldE (j := i + 1) dL_law_898 (nI_add i 1) (by omega) hLL ?_
      refine x_aload_n dL_law_899 rfl ?_
      refine x_iload_n dL_law_900 rfl ?_
      refine x_iconst 2 dL_law_901 (by decide) ?_
      refine x_iadd dL_law_902 ?_
      refine x_sldE (j := i + 2) dL_law_903 (nI_add i 2) (by omega) hLL ?_
      refine x_callV (as := [_, _]) okX0_glad bX0 rfl rfl q1239 dL_law_904 (Nat.le_of_ble_eq_true rfl) rfl (Nat.le_of_ble_eq_true rfl) (by show _ ≤ 603072; omega) (by show _ ≤ 7262314; omega) (pX0_glad hn hLI hP (fun z => absurd (hb.symm.trans z) (by decide)) (fun b1 e1 => ?_) (fun _ e => absurd (hw.symm.trans e) (by decide)))
      intros
      refine x_aload_n dL_law_907 rfl ?_
      refine x_aload_n dL_law_908 rfl ?_
      refine x_iload_n dL_law_909 rfl ?_
      refine x_iconst 1 dL_law_910 (by decide) ?_
      refine x_iadd dL_law_911 ?_
      refine x_sldE (j := i + 1) dL_law_912 (nI_add i 1) (by omega) hLL ?_
      refine x_aload_n dL_law_913 rfl ?_
      refine x_iload_n dL_law_914 rfl ?_
      refine x_iconst 2 dL_law_915 (by decide) ?_
      refine x_iadd dL_law_916 ?_
      refine x_sldE (j := i + 2) dL_law_917 (nI_add i 2) (by omega) hLL ?_
      refine x_callV (as := [_, _]) okX5_glad bX5 rfl rfl q1836 dL_law_918 (Nat.le_of_ble_eq_true rfl) rfl (Nat.le_of_ble_eq_true rfl) (by show _ ≤ 603072; omega) (by show _ ≤ 7262314; omega) (pX5_glad hn hk ho (fun z => absurd (hb.symm.trans z) (by decide)) (fun b2 e2 => ?_) (fun _ e => absurd (hw.symm.trans e) (by decide)))
      intros
      refine x_icmp_eq 1712 dL_law_921 (by decide) (fun _ => ?_) (fun c_ => absurd (rfl) c_)
      exact go_fin (kN := kN) hG ⟨hn, by omega, hLk, hP, hHs, hSi, hSh, hIm, hFx⟩ (by omega) (by omega)
    · refine x_aload_n dL_law_893 rfl ?_
      refine x_aload_n dL_law_894 rfl ?_
      refine x_iload_n dL_law_895 rfl ?_
      refine x_iconst 1 dL_law_896 (by decide) ?_
      refine x_iadd dL_law_897 ?_
      refine x_sldE (j := i + 1) dL_law_898 (nI_add i 1) (by omega) hLL ?_
      refine x_aload_n dL_law_899 rfl ?_
      refine x_iload_n dL_law_900 rfl ?_
      refine x_iconst 2 dL_law_901 (by decide) ?_
      refine x_iadd dL_law_902 ?_
      refine x_sldE (j := i + 2) dL_law_903 (nI_add i 2) (by omega) hLL ?_
      refine x_callV (as := [_, _]) okX0_glad bX0 rfl rfl q1239 dL_law_904 (Nat.le_of_ble_eq_true rfl) rfl (Nat.le_of_ble_eq_true rfl) (by show _ ≤ 603072; omega) (by show _ ≤ 7262314; omega) (pX0_glad hn hLI hP (fun z => absurd (hb.symm.trans z) (by decide)) (fun _ e => absurd e hw) (fun b1 e1 => ?_))
      intros
      refine x_aload_n dL_law_907 rfl ?_
      refine x_aload_n dL_law_908 rfl ?_
      refine x_iload_n dL_law_909 rfl ?_
      refine x_iconst 1 dL_law_910 (by decide) ?_
      refine x_iadd dL_law_911 ?_
      refine x_sldE (j := i + 1) dL_law_912 (nI_add i 1) (by omega) hLL ?_
      refine x_aload_n dL_law_913 rfl ?_
      refine x_iload_n dL_law_914 rfl ?_
      refine x_iconst 2 dL_law_915 (by decide) ?_
      refine x_iadd dL_law_916 ?_
      refine x_sldE (j := i + 2) dL_law_917 (nI_add i 2) (by omega) hLL ?_
      refine x_callV (as := [_, _]) okX5_glad bX5 rfl rfl q1836 dL_law_918 (Nat.le_of_ble_eq_true rfl) rfl (Nat.le_of_ble_eq_true rfl) (by show _ ≤ 603072; omega) (by show _ ≤ 7262314; omega) (pX5_glad hn hk ho (fun z => absurd (hb.symm.trans z) (by decide)) (fun _ e => absurd e hw) (fun b2 e2 => ?_))
      intros
      refine x_icmp_eq 1712 dL_law_921 (by decide) (fun _ => ?_) (fun c_ => absurd (rfl) c_)
      exact go_fin (kN := kN) hG ⟨hn, by omega, hLk, hP, hHs, hSi, hSh, hIm, hFx⟩ (by omega) (by omega)
  · refine x_aload_n dL_law_893 rfl ?_
    refine x_aload_n dL_law_894 rfl ?_
    refine x_iload_n dL_law_895 rfl ?_
    refine x_iconst 1 dL_law_896 (by decide) ?_
    refine x_iadd dL_law_897 ?_
    refine x_sldE (j := i + 1) dL_law_898 (nI_add i 1) (by omega) hLL ?_
    refine x_aload_n dL_law_899 rfl ?_
    refine x_iload_n dL_law_900 rfl ?_
    refine x_iconst 2 dL_law_901 (by decide) ?_
    refine x_iadd dL_law_902 ?_
    refine x_sldE (j := i + 2) dL_law_903 (nI_add i 2) (by omega) hLL ?_
    refine x_callV (as := [_, _]) okX0_glad bX0 rfl rfl q1239 dL_law_904 (Nat.le_of_ble_eq_true rfl) rfl (Nat.le_of_ble_eq_true rfl) (by show _ ≤ 603072; omega) (by show _ ≤ 7262314; omega) (pX0_glad hn hLI hP (fun _ => ?_) (fun b e => absurd (by rw [b, e] <;> rfl) hb) (fun b e => absurd (by rw [b, e] <;> rfl) hb))
    intros
    refine x_aload_n dL_law_907 rfl ?_
    refine x_aload_n dL_law_908 rfl ?_
    refine x_iload_n dL_law_909 rfl ?_
    refine x_iconst 1 dL_law_910 (by decide) ?_
    refine x_iadd dL_law_911 ?_
    refine x_sldE (j := i + 1) dL_law_912 (nI_add i 1) (by omega) hLL ?_
    refine x_aload_n dL_law_913 rfl ?_
    refine x_iload_n dL_law_914 rfl ?_
    refine x_iconst 2 dL_law_915 (by decide) ?_
    refine x_iadd dL_law_916 ?_
    refine x_sldE (j := i + 2) dL_law_917 (nI_add i 2) (by omega) hLL ?_
    refine x_callV (as := [_, _]) okX5_glad bX5 rfl rfl q1836 dL_law_918 (Nat.le_of_ble_eq_true rfl) rfl (Nat.le_of_ble_eq_true rfl) (by show _ ≤ 603072; omega) (by show _ ≤ 7262314; omega) (pX5_glad hn hk ho (fun _ => ?_) (fun b e => absurd (by rw [b, e] <;> rfl) hb) (fun b e => absurd (by rw [b, e] <;> rfl) hb))
    intros
    refine x_icmp_eq 1712 dL_law_921 (by decide) (fun _ => ?_) (fun c_ => absurd (rfl) c_)
    exact go_fin (kN := kN) hG ⟨hn, by omega, hLk, hP, hHs, hSi, hSh, hIm, hFx⟩ (by omega) (by omega)
theorem law_25 {L : Nat} {xs : Nat → Int32} {k i ce sl : Nat} {h : AHp} (hi : i + 6 ≤ L) (hLL : L < 1000) (hce : ce ≤ 593672) (hsl : sl ≤ 7149314) (hC : Can k h) (hG : GoL L xs k i ce sl) : RchX (ScP L xs) JL ce sl 1144 [some (.ref 4), some (.ref 1), some (.ref 0), some (.int (nI i))] [] h := by
  obtain ⟨th, kd, ow, ag, lk, co, sh, hs, tp, hd, rl, ro, rf, ol, ah, tr, od, tk, fo, wi, ou, ge, mo, ev, se, fr, to, tn, va, im, lo, iv, tP, tL, tA, tK, tC, tS, tH, tN, tE, tZ, tf, mP, mf, eP, eT, eF, ef, eg, ew, rx, gx, wx, hv, rc, ic, pf, lc, n, t, kN, rfl, hcp⟩ := hC
  obtain ⟨hn, htk, hLk, hP, hHs, hSi, hSh, hIm, hFx⟩ := hcp
  have hLI := lkI_of hn hLk
  obtain ⟨hk, ho⟩ := lkH_of hLk
  have hNn := nl_none n
  by_cases hb : inB (xs (i + 1)) 0 11 = true
  · obtain ⟨j, hj, ej⟩ : ∃ j, j < 12 ∧ xs (i + 1) = nI j := inB_m (m := 12) hb (by omega)
    by_cases htj : th j = -1
    · refine x_aload_n dL_law_1144 rfl ?_
      refine x_aload_n dL_law_1145 rfl ?_
      refine x_iload_n dL_law_1146 rfl ?_
      refine x_iconst 1 dL_law_1147 (by decide) ?_
      refine x_iadd dL_law_1148 ?_
      refine x_sldE (j := i + 1) dL_law_1149 (nI_add i 1) (by omega) hLL ?_
      refine x_callV (as := [_]) okX0_odds bX0 rfl rfl q1362 dL_law_1150 (Nat.le_of_ble_eq_true rfl) rfl (Nat.le_of_ble_eq_true rfl) (by show _ ≤ 603072; omega) (by show _ ≤ 7262314; omega) (pX0_odds hn hLI hP (fun z => absurd (hb.symm.trans z) (by decide)) (fun j1 hj1 e1 h1 => ?_) (fun j1 hj1 e1 h1 => absurd (by rw [nJ (by omega) (by omega) ej e1]; exact htj) h1))
      intros
      refine x_aload_n dL_law_1153 rfl ?_
      refine x_aload_n dL_law_1154 rfl ?_
      refine x_iload_n dL_law_1155 rfl ?_
      refine x_iconst 1 dL_law_1156 (by decide) ?_
      refine x_iadd dL_law_1157 ?_
      refine x_sldE (j := i + 1) dL_law_1158 (nI_add i 1) (by omega) hLL ?_
      refine x_callV (as := [_]) okX5_odds bX5 rfl rfl q1880 dL_law_1159 (Nat.le_of_ble_eq_true rfl) rfl (Nat.le_of_ble_eq_true rfl) (by show _ ≤ 603072; omega) (by show _ ≤ 7262314; omega) (pX5_odds hn hk ho (fun z => absurd (hb.symm.trans z) (by decide)) (fun j2 hj2 e2 h2 => ?_) (fun j1 hj1 e1 h1 => absurd (by rw [nJ (by omega) (by omega) ej e1]; exact htj) h1))
      intros
      obtain rfl := nJ (by omega) (by omega) e1 e2
      refine x_icmp_eq 1712 dL_law_1162 (by decide) (fun _ => ?_) (fun c_ => absurd (rfl) c_)
      exact go_fin (kN := kN) hG ⟨hn, by omega, hLk, hP, hHs, hSi, hSh, hIm, hFx⟩ (by omega) (by omega)
    · refine x_aload_n dL_law_1144 rfl ?_
      refine x_aload_n dL_law_1145 rfl ?_
      refine x_iload_n dL_law_1146 rfl ?_
      refine x_iconst 1 dL_law_1147 (by decide) ?_
      refine x_iadd dL_law_1148 ?_
      refine x_sldE (j := i + 1) dL_law_1149 (nI_add i 1) (by omega) hLL ?_
      refine x_callV (as := [_]) okX0_odds bX0 rfl rfl q1362 dL_law_1150 (Nat.le_of_ble_eq_true rfl) rfl (Nat.le_of_ble_eq_true rfl) (by show _ ≤ 603072; omega) (by show _ ≤ 7262314; omega) (pX0_odds hn hLI hP (fun z => absurd (hb.symm.trans z) (by decide)) (fun j1 hj1 e1 h1 => absurd (by rw [nJ (by omega) (by omega) ej e1] at h1; exact h1) htj) (fun j1 hj1 e1 h1 => ?_))
      intros
      refine x_aload_n dL_law_1153 rfl ?_
      refine x_aload_n dL_law_1154 rfl ?_
      refine x_iload_n dL_law_1155 rfl ?_
      refine x_iconst 1 dL_law_1156 (by decide) ?_
      refine x_iadd dL_law_1157 ?_
      refine x_sldE (j := i + 1) dL_law_1158 (nI_add i 1) (by omega) hLL ?_
      refine x_callV (as := [_]) okX5_odds bX5 rfl rfl q1880 dL_law_1159 (Nat.le_of_ble_eq_true rfl) rfl (Nat.le_of_ble_eq_true rfl) (by show _ ≤ 603072; omega) (by show _ ≤ 7262314; omega) (pX5_odds hn hk ho (fun z => absurd (hb.symm.trans z) (by decide)) (fun j1 hj1 e1 h1 => absurd (by rw [nJ (by omega) (by omega) ej e1] at h1; exact h1) htj) (fun j2 hj2 e2 h2 => ?_))
      intros
      obtain rfl := nJ (by omega) (by omega) e1 e2
      refine x_icmp_eq 1712 dL_law_1162 (by decide) (fun _ => ?_) (fun c_ => absurd (rfl) c_)
      exact go_fin (kN := kN) hG ⟨hn, by omega, hLk, hP, hHs, hSi, hSh, hIm, hFx⟩ (by omega) (by omega)
  · refine x_aload_n dL_law_1144 rfl ?_
    refine x_aload_n dL_law_1145 rfl ?_
    refine x_iload_n dL_law_1146 rfl ?_
    refine x_iconst 1 dL_law_1147 (by decide) ?_
    refine x_iadd dL_law_1148 ?_
    refine x_sldE (j := i + 1) dL_law_1149 (nI_add i 1) (by omega) hLL ?_
    refine x_callV (as := [_]) okX0_odds bX0 rfl rfl q1362 dL_law_1150 (Nat.le_of_ble_eq_true rfl) rfl (Nat.le_of_ble_eq_true rfl) (by show _ ≤ 603072; omega) (by show _ ≤ 7262314; omega) (pX0_odds hn hLI hP (fun _ => ?_) (fun j1 hj1 e1 _ => absurd (inP hj1 e1) hb) (fun j1 hj1 e1 _ => absurd (inP hj1 e1) hb))
    intros
    refine x_aload_n dL_law_1153 rfl ?_
    refine x_aload_n dL_law_1154 rfl ?_
    refine x_iload_n dL_law_1155 rfl ?_
    refine x_iconst 1 dL_law_1156 (by decide) ?_
    refine x_iadd dL_law_1157 ?_
    refine x_sldE (j := i + 1) dL_law_1158 (nI_add i 1) (by omega) hLL ?_
    refine x_callV (as := [_]) okX5_odds bX5 rfl rfl q1880 dL_law_1159 (Nat.le_of_ble_eq_true rfl) rfl (Nat.le_of_ble_eq_true rfl) (by show _ ≤ 603072; omega) (by show _ ≤ 7262314; omega) (pX5_odds hn hk ho (fun _ => ?_) (fun j1 hj1 e1 _ => absurd (inP hj1 e1) hb) (fun j1 hj1 e1 _ => absurd (inP hj1 e1) hb))
    intros
    refine x_icmp_eq 1712 dL_law_1162 (by decide) (fun _ => ?_) (fun c_ => absurd (rfl) c_)
    exact go_fin (kN := kN) hG ⟨hn, by omega, hLk, hP, hHs, hSi, hSh, hIm, hFx⟩ (by omega) (by omega)
theorem law_29 {L : Nat} {xs : Nat → Int32} {k i ce sl : Nat} {h : AHp} (hi : i + 6 ≤ L) (hLL : L < 1000) (hce : ce ≤ 593672) (hsl : sl ≤ 7149314) (hC : Can k h) (hG : GoL L xs k i ce sl) : RchX (ScP L xs) JL ce sl 1226 [some (.ref 4), some (.ref 1), some (.ref 0), some (.int (nI i))] [] h := by
  obtain ⟨th, kd, ow, ag, lk, co, sh, hs, tp, hd, rl, ro, rf, ol, ah, tr, od, tk, fo, wi, ou, ge, mo, ev, se, fr, to, tn, va, im, lo, iv, tP, tL, tA, tK, tC, tS, tH, tN, tE, tZ, tf, mP, mf, eP, eT, eF, ef, eg, ew, rx, gx, wx, hv, rc, ic, pf, lc, n, t, kN, rfl, hcp⟩ := hC
  obtain ⟨hn, htk, hLk, hP, hHs, hSi, hSh, hIm, hFx⟩ := hcp
  have hLI := lkI_of hn hLk
  obtain ⟨hk, ho⟩ := lkH_of hLk
  have hNn := nl_none n
  by_cases hb : (inB (xs (i + 1)) 0 7 && inB (xs (i + 2)) 0 2) = true
  · by_cases hw : xs (i + 2) = 0
    · refine x_aload_n dL_law_1226 rfl ?_
      refine x_aload_n dL_law_1227 rfl ?_
      refine x_iload_n dL_law_1228 rfl ?_
      refine x_iconst 1 dL_law_1229 (by decide) ?_
      refine x_iadd dL_law_1230 ?_
      refine x_sldE (j := i + 1) dL_law_1231 (nI_add i 1) (by omega) hLL ?_
      refine x_aload_n dL_law_1232 rfl ?_
      refine x_iload_n dL_law_1233 rfl ?_
      refine x_iconst 2 dL_law_1234 (by decide) ?_
      refine x_iadd dL_law_1235 ?_
      refine x_sldE (j := i + 2) dL_law_1236 (nI_add i 2) (by omega) hLL ?_
      refine x_callV (as := [_, _]) okX0_sorts bX0 rfl rfl q1392 dL_law_1237 (Nat.le_of_ble_eq_true rfl) rfl (Nat.le_of_ble_eq_true rfl) (by show _ ≤ 603072; omega) (by show _ ≤ 7262314; omega) (pX0_sorts hn hLI hP (fun z => absurd (hb.symm.trans z) (by decide)) (fun b1 e1 => ?_) (fun _ _ z => absurd hw z))
      intros
      refine x_aload_n dL_law_1240 rfl ?_
      refine x_aload_n dL_law_1241 rfl ?_
      refine x_iload_n dL_law_1242 rfl ?_
      refine x_iconst 1 dL_law_1243 (by decide) ?_
      refine x_iadd dL_law_1244 ?_
      refine x_sldE (j := i + 1) dL_law_1245 (nI_add i 1) (by omega) hLL ?_
      refine x_aload_n dL_law_1246 rfl ?_
      refine x_iload_n dL_law_1247 rfl ?_
      refine x_iconst 2 dL_law_1248 (by decide) ?_
      refine x_iadd dL_law_1249 ?_
      refine x_sldE (j := i + 2) dL_law_1250 (nI_add i 2) (by omega) hLL ?_
      refine x_callV (as := [_, _]) okX5_sorts bX5 rfl rfl q1947 dL_law_1251 (Nat.le_of_ble_eq_true rfl) rfl (Nat.le_of_ble_eq_true rfl) (by show _ ≤ 603072; omega) (by show _ ≤ 7262314; omega) (pX5_sorts hn (fun z => absurd (hb.symm.trans z) (by decide)) (fun b1 e1 => ?_) (fun _ _ z => absurd hw z))
      intros
      refine x_icmp_eq 1712 dL_law_1254 (by decide) (fun _ => ?_) (fun c_ => absurd (rfl) c_)
      exact go_fin (kN := kN) hG ⟨hn, by omega, hLk, hP, hHs, hSi, hSh, hIm, hFx⟩ (by omega) (by omega)
    · refine x_aload_n dL_law_1226 rfl ?_
      refine x_aload_n dL_law_1227 rfl ?_
      refine x_iload_n dL_law_1228 rfl ?_
      refine x_iconst 1 dL_law_1229 (by decide) ?_
      refine x_iadd dL_law_1230 ?_
      refine x_sldE (j := i + 1) dL_law_1231 (nI_add i 1) (by omega) hLL ?_
      refine x_aload_n dL_law_1232 rfl ?_
      refine x_iload_n dL_law_1233 rfl ?_
      refine x_iconst 2 dL_law_1234 (by decide) ?_
      refine x_iadd dL_law_1235 ?_
      refine x_sldE (j := i + 2) dL_law_1236 (nI_add i 2) (by omega) hLL ?_
      refine x_callV (as := [_, _]) okX0_sorts bX0 rfl rfl q1392 dL_law_1237 (Nat.le_of_ble_eq_true rfl) rfl (Nat.le_of_ble_eq_true rfl) (by show _ ≤ 603072; omega) (by show _ ≤ 7262314; omega) (pX0_sorts hn hLI hP (fun z => absurd (hb.symm.trans z) (by decide)) (fun _ e => absurd e hw) (fun b1 b2 e1 => ?_))
      intros
      refine x_aload_n dL_law_1240 rfl ?_
      refine x_aload_n dL_law_1241 rfl ?_
      refine x_iload_n dL_law_1242 rfl ?_
      refine x_iconst 1 dL_law_1243 (by decide) ?_
      refine x_iadd dL_law_1244 ?_
      refine x_sldE (j := i + 1) dL_law_1245 (nI_add i 1) (by omega) hLL ?_
      refine x_aload_n dL_law_1246 rfl ?_
      refine x_iload_n dL_law_1247 rfl ?_
      refine x_iconst 2 dL_law_1248 (by decide) ?_
      refine x_iadd dL_law_1249 ?_
      refine x_sldE (j := i + 2) dL_law_1250 (nI_add i 2) (by omega) hLL ?_
      refine x_callV (as := [_, _]) okX5_sorts bX5 rfl rfl q1947 dL_law_1251 (Nat.le_of_ble_eq_true rfl) rfl (Nat.le_of_ble_eq_true rfl) (by show _ ≤ 603072; omega) (by show _ ≤ 7262314; omega) (pX5_sorts hn (fun z => absurd (hb.symm.trans z) (by decide)) (fun _ e => absurd e hw) (fun b1 b2 e1 => ?_))
      intros
      refine x_icmp_eq 1712 dL_law_1254 (by decide) (fun _ => ?_) (fun c_ => absurd (rfl) c_)
      exact go_fin (kN := kN) hG ⟨hn, by omega, hLk, hP, hHs, hSi, hSh, hIm, hFx⟩ (by omega) (by omega)
  · refine x_aload_n dL_law_1226 rfl ?_
    refine x_aload_n dL_law_1227 rfl ?_
    refine x_iload_n dL_law_1228 rfl ?_
    refine x_iconst 1 dL_law_1229 (by decide) ?_
    refine x_iadd dL_law_1230 ?_
    refine x_sldE (j := i + 1) dL_law_1231 (nI_add i 1) (by omega) hLL ?_
    refine x_aload_n dL_law_1232 rfl ?_
    refine x_iload_n dL_law_1233 rfl ?_
    refine x_iconst 2 dL_law_1234 (by decide) ?_
    refine x_iadd dL_law_1235 ?_
    refine x_sldE (j := i + 2) dL_law_1236 (nI_add i 2) (by omega) hLL ?_
    refine x_callV (as := [_, _]) okX0_sorts bX0 rfl rfl q1392 dL_law_1237 (Nat.le_of_ble_eq_true rfl) rfl (Nat.le_of_ble_eq_true rfl) (by show _ ≤ 603072; omega) (by show _ ≤ 7262314; omega) (pX0_sorts hn hLI hP (fun _ => ?_) (fun b e => absurd (by rw [b, e] <;> rfl) hb) (fun b d _ => absurd (by rw [b, d] <;> rfl) hb))
    intros
    refine x_aload_n dL_law_1240 rfl ?_
    refine x_aload_n dL_law_1241 rfl ?_
    refine x_iload_n dL_law_1242 rfl ?_
    refine x_iconst 1 dL_law_1243 (by decide) ?_
    refine x_iadd dL_law_1244 ?_
    refine x_sldE (j := i + 1) dL_law_1245 (nI_add i 1) (by omega) hLL ?_
    refine x_aload_n dL_law_1246 rfl ?_
    refine x_iload_n dL_law_1247 rfl ?_
    refine x_iconst 2 dL_law_1248 (by decide) ?_
    refine x_iadd dL_law_1249 ?_
    refine x_sldE (j := i + 2) dL_law_1250 (nI_add i 2) (by omega) hLL ?_
    refine x_callV (as := [_, _]) okX5_sorts bX5 rfl rfl q1947 dL_law_1251 (Nat.le_of_ble_eq_true rfl) rfl (Nat.le_of_ble_eq_true rfl) (by show _ ≤ 603072; omega) (by show _ ≤ 7262314; omega) (pX5_sorts hn (fun _ => ?_) (fun b e => absurd (by rw [b, e] <;> rfl) hb) (fun b d _ => absurd (by rw [b, d] <;> rfl) hb))
    intros
    refine x_icmp_eq 1712 dL_law_1254 (by decide) (fun _ => ?_) (fun c_ => absurd (rfl) c_)
    exact go_fin (kN := kN) hG ⟨hn, by omega, hLk, hP, hHs, hSi, hSh, hIm, hFx⟩ (by omega) (by omega)
theorem law_30 {L : Nat} {xs : Nat → Int32} {k i ce sl : Nat} {h : AHp} (hi : i + 6 ≤ L) (hLL : L < 1000) (hce : ce ≤ 593672) (hsl : sl ≤ 7149314) (hC : Can k h) (hG : GoL L xs k i ce sl) : RchX (ScP L xs) JL ce sl 1259 [some (.ref 4), some (.ref 1), some (.ref 0), some (.int (nI i))] [] h := by
  obtain ⟨th, kd, ow, ag, lk, co, sh, hs, tp, hd, rl, ro, rf, ol, ah, tr, od, tk, fo, wi, ou, ge, mo, ev, se, fr, to, tn, va, im, lo, iv, tP, tL, tA, tK, tC, tS, tH, tN, tE, tZ, tf, mP, mf, eP, eT, eF, ef, eg, ew, rx, gx, wx, hv, rc, ic, pf, lc, n, t, kN, rfl, hcp⟩ := hC
  obtain ⟨hn, htk, hLk, hP, hHs, hSi, hSh, hIm, hFx⟩ := hcp
  have hLI := lkI_of hn hLk
  obtain ⟨hk, ho⟩ := lkH_of hLk
  have hNn := nl_none n
  by_cases hb : inB (xs (i + 1)) 0 1 = true
  · by_cases hw : raF th (xs (i + 1)) 8 = -1
    · refine x_aload_n dL_law_1259 rfl ?_
      refine x_aload_n dL_law_1260 rfl ?_
      refine x_iload_n dL_law_1261 rfl ?_
      refine x_iconst 1 dL_law_1262 (by decide) ?_
      refine x_iadd dL_law_1263 ?_
      refine x_sldE (j := i + 1) dL_law_1264 (nI_add i 1) (by omega) hLL ?_
      refine x_callV (as := [_]) okX0_rare bX0 rfl rfl q1397 dL_law_1265 (Nat.le_of_ble_eq_true rfl) rfl (Nat.le_of_ble_eq_true rfl) (by show _ ≤ 603072; omega) (by show _ ≤ 7262314; omega) (pX0_rare  (fun z => absurd (hb.symm.trans z) (by decide)) (fun b1 e1 => ?_) (fun _ z => absurd hw z))
      intros
      refine x_aload_n dL_law_1268 rfl ?_
      refine x_aload_n dL_law_1269 rfl ?_
      refine x_iload_n dL_law_1270 rfl ?_
      refine x_iconst 1 dL_law_1271 (by decide) ?_
      refine x_iadd dL_law_1272 ?_
      refine x_sldE (j := i + 1) dL_law_1273 (nI_add i 1) (by omega) hLL ?_
      refine x_callV (as := [_]) okX5_rare bX5 rfl rfl q1955 dL_law_1274 (Nat.le_of_ble_eq_true rfl) rfl (Nat.le_of_ble_eq_true rfl) (by show _ ≤ 603072; omega) (by show _ ≤ 7262314; omega) (pX5_rare  (fun z => absurd (hb.symm.trans z) (by decide)) (fun b1 e1 => ?_) (fun _ z => absurd hw z))
      intros
      refine x_icmp_eq 1712 dL_law_1277 (by decide) (fun _ => ?_) (fun c_ => absurd (rfl) c_)
      exact go_fin (kN := kN) hG ⟨hn, by omega, hLk, hP, hHs, hSi, hSh, hIm, hFx⟩ (by omega) (by omega)
    · refine x_aload_n dL_law_1259 rfl ?_
      refine x_aload_n dL_law_1260 rfl ?_
      refine x_iload_n dL_law_1261 rfl ?_
      refine x_iconst 1 dL_law_1262 (by decide) ?_
      refine x_iadd dL_law_1263 ?_
      refine x_sldE (j := i + 1) dL_law_1264 (nI_add i 1) (by omega) hLL ?_
      refine x_callV (as := [_]) okX0_rare bX0 rfl rfl q1397 dL_law_1265 (Nat.le_of_ble_eq_true rfl) rfl (Nat.le_of_ble_eq_true rfl) (by show _ ≤ 603072; omega) (by show _ ≤ 7262314; omega) (pX0_rare  (fun z => absurd (hb.symm.trans z) (by decide)) (fun _ z => absurd z hw) (fun b1 e1 => ?_))
      intros
      refine x_aload_n dL_law_1268 rfl ?_
      refine x_aload_n dL_law_1269 rfl ?_
      refine x_iload_n dL_law_1270 rfl ?_
      refine x_iconst 1 dL_law_1271 (by decide) ?_
      refine x_iadd dL_law_1272 ?_
      refine x_sldE (j := i + 1) dL_law_1273 (nI_add i 1) (by omega) hLL ?_
      refine x_callV (as := [_]) okX5_rare bX5 rfl rfl q1955 dL_law_1274 (Nat.le_of_ble_eq_true rfl) rfl (Nat.le_of_ble_eq_true rfl) (by show _ ≤ 603072; omega) (by show _ ≤ 7262314; omega) (pX5_rare  (fun z => absurd (hb.symm.trans z) (by decide)) (fun _ z => absurd z hw) (fun b1 e1 => ?_))
      intros
      refine x_icmp_eq 1712 dL_law_1277 (by decide) (fun _ => ?_) (fun c_ => absurd (rfl) c_)
      exact go_fin (kN := kN) hG ⟨hn, by omega, hLk, hP, hHs, hSi, hSh, hIm, hFx⟩ (by omega) (by omega)
  · refine x_aload_n dL_law_1259 rfl ?_
    refine x_aload_n dL_law_1260 rfl ?_
    refine x_iload_n dL_law_1261 rfl ?_
    refine x_iconst 1 dL_law_1262 (by decide) ?_
    refine x_iadd dL_law_1263 ?_
    refine x_sldE (j := i + 1) dL_law_1264 (nI_add i 1) (by omega) hLL ?_
    refine x_callV (as := [_]) okX0_rare bX0 rfl rfl q1397 dL_law_1265 (Nat.le_of_ble_eq_true rfl) rfl (Nat.le_of_ble_eq_true rfl) (by show _ ≤ 603072; omega) (by show _ ≤ 7262314; omega) (pX0_rare  (fun _ => ?_) (fun b _ => absurd b hb) (fun b _ => absurd b hb))
    intros
    refine x_aload_n dL_law_1268 rfl ?_
    refine x_aload_n dL_law_1269 rfl ?_
    refine x_iload_n dL_law_1270 rfl ?_
    refine x_iconst 1 dL_law_1271 (by decide) ?_
    refine x_iadd dL_law_1272 ?_
    refine x_sldE (j := i + 1) dL_law_1273 (nI_add i 1) (by omega) hLL ?_
    refine x_callV (as := [_]) okX5_rare bX5 rfl rfl q1955 dL_law_1274 (Nat.le_of_ble_eq_true rfl) rfl (Nat.le_of_ble_eq_true rfl) (by show _ ≤ 603072; omega) (by show _ ≤ 7262314; omega) (pX5_rare  (fun _ => ?_) (fun b _ => absurd b hb) (fun b _ => absurd b hb))
    intros
    refine x_icmp_eq 1712 dL_law_1277 (by decide) (fun _ => ?_) (fun c_ => absurd (rfl) c_)
    exact go_fin (kN := kN) hG ⟨hn, by omega, hLk, hP, hHs, hSi, hSh, hIm, hFx⟩ (by omega) (by omega)
theorem law_31 {L : Nat} {xs : Nat → Int32} {k i ce sl : Nat} {h : AHp} (hi : i + 6 ≤ L) (hLL : L < 1000) (hce : ce ≤ 593672) (hsl : sl ≤ 7149314) (hC : Can k h) (hG : GoL L xs k i ce sl) : RchX (ScP L xs) JL ce sl 1282 [some (.ref 4), some (.ref 1), some (.ref 0), some (.int (nI i))] [] h := by
  obtain ⟨th, kd, ow, ag, lk, co, sh, hs, tp, hd, rl, ro, rf, ol, ah, tr, od, tk, fo, wi, ou, ge, mo, ev, se, fr, to, tn, va, im, lo, iv, tP, tL, tA, tK, tC, tS, tH, tN, tE, tZ, tf, mP, mf, eP, eT, eF, ef, eg, ew, rx, gx, wx, hv, rc, ic, pf, lc, n, t, kN, rfl, hcp⟩ := hC
  obtain ⟨hn, htk, hLk, hP, hHs, hSi, hSh, hIm, hFx⟩ := hcp
  have hLI := lkI_of hn hLk
  obtain ⟨hk, ho⟩ := lkH_of hLk
  have hNn := nl_none n
  by_cases hb : inB (xs (i + 1)) 0 2 = true
  · by_cases hw : fiF ag hs (xs (i + 1)) n = -1
    · refine x_aload_n dL_law_1282 rfl ?_
      refine x_aload_n dL_law_1283 rfl ?_
      refine x_iload_n dL_law_1284 rfl ?_
      refine x_iconst 1 dL_law_1285 (by decide) ?_
      refine x_iadd dL_law_1286 ?_
      refine x_sldE (j := i + 1) dL_law_1287 (nI_add i 1) (by omega) hLL ?_
      refine x_callV (as := [_]) okX0_first bX0 rfl rfl q1401 dL_law_1288 (Nat.le_of_ble_eq_true rfl) rfl (Nat.le_of_ble_eq_true rfl) (by show _ ≤ 603072; omega) (by show _ ≤ 7262314; omega) (pX0_first hn (fun z => absurd (hb.symm.trans z) (by decide)) (fun b1 e1 => ?_) (fun _ z => absurd hw z))
      intros
      refine x_aload_n dL_law_1291 rfl ?_
      refine x_aload_n dL_law_1292 rfl ?_
      refine x_iload_n dL_law_1293 rfl ?_
      refine x_iconst 1 dL_law_1294 (by decide) ?_
      refine x_iadd dL_law_1295 ?_
      refine x_sldE (j := i + 1) dL_law_1296 (nI_add i 1) (by omega) hLL ?_
      refine x_callV (as := [_]) okX5_first bX5 rfl rfl q1959 dL_law_1297 (Nat.le_of_ble_eq_true rfl) rfl (Nat.le_of_ble_eq_true rfl) (by show _ ≤ 603072; omega) (by show _ ≤ 7262314; omega) (pX5_first hn (fun z => absurd (hb.symm.trans z) (by decide)) (fun b1 e1 => ?_) (fun _ z => absurd hw z))
      intros
      refine x_icmp_eq 1712 dL_law_1300 (by decide) (fun _ => ?_) (fun c_ => absurd (rfl) c_)
      exact go_fin (kN := kN) hG ⟨hn, by omega, hLk, hP, hHs, hSi, hSh, hIm, hFx⟩ (by omega) (by omega)
    · refine x_aload_n dL_law_1282 rfl ?_
      refine x_aload_n dL_law_1283 rfl ?_
      refine x_iload_n dL_law_1284 rfl ?_
      refine x_iconst 1 dL_law_1285 (by decide) ?_
      refine x_iadd dL_law_1286 ?_
      refine x_sldE (j := i + 1) dL_law_1287 (nI_add i 1) (by omega) hLL ?_
      refine x_callV (as := [_]) okX0_first bX0 rfl rfl q1401 dL_law_1288 (Nat.le_of_ble_eq_true rfl) rfl (Nat.le_of_ble_eq_true rfl) (by show _ ≤ 603072; omega) (by show _ ≤ 7262314; omega) (pX0_first hn (fun z => absurd (hb.symm.trans z) (by decide)) (fun _ z => absurd z hw) (fun b1 e1 => ?_))
      intros
      refine x_aload_n dL_law_1291 rfl ?_
      refine x_aload_n dL_law_1292 rfl ?_
      refine x_iload_n dL_law_1293 rfl ?_
      refine x_iconst 1 dL_law_1294 (by decide) ?_
      refine x_iadd dL_law_1295 ?_
      refine x_sldE (j := i + 1) dL_law_1296 (nI_add i 1) (by omega) hLL ?_
      refine x_callV (as := [_]) okX5_first bX5 rfl rfl q1959 dL_law_1297 (Nat.le_of_ble_eq_true rfl) rfl (Nat.le_of_ble_eq_true rfl) (by show _ ≤ 603072; omega) (by show _ ≤ 7262314; omega) (pX5_first hn (fun z => absurd (hb.symm.trans z) (by decide)) (fun _ z => absurd z hw) (fun b1 e1 => ?_))
      intros
      refine x_icmp_eq 1712 dL_law_1300 (by decide) (fun _ => ?_) (fun c_ => absurd (rfl) c_)
      exact go_fin (kN := kN) hG ⟨hn, by omega, hLk, hP, hHs, hSi, hSh, hIm, hFx⟩ (by omega) (by omega)
  · refine x_aload_n dL_law_1282 rfl ?_
    refine x_aload_n dL_law_1283 rfl ?_
    refine x_iload_n dL_law_1284 rfl ?_
    refine x_iconst 1 dL_law_1285 (by decide) ?_
    refine x_iadd dL_law_1286 ?_
    refine x_sldE (j := i + 1) dL_law_1287 (nI_add i 1) (by omega) hLL ?_
    refine x_callV (as := [_]) okX0_first bX0 rfl rfl q1401 dL_law_1288 (Nat.le_of_ble_eq_true rfl) rfl (Nat.le_of_ble_eq_true rfl) (by show _ ≤ 603072; omega) (by show _ ≤ 7262314; omega) (pX0_first hn (fun _ => ?_) (fun b _ => absurd b hb) (fun b _ => absurd b hb))
    intros
    refine x_aload_n dL_law_1291 rfl ?_
    refine x_aload_n dL_law_1292 rfl ?_
    refine x_iload_n dL_law_1293 rfl ?_
    refine x_iconst 1 dL_law_1294 (by decide) ?_
    refine x_iadd dL_law_1295 ?_
    refine x_sldE (j := i + 1) dL_law_1296 (nI_add i 1) (by omega) hLL ?_
    refine x_callV (as := [_]) okX5_first bX5 rfl rfl q1959 dL_law_1297 (Nat.le_of_ble_eq_true rfl) rfl (Nat.le_of_ble_eq_true rfl) (by show _ ≤ 603072; omega) (by show _ ≤ 7262314; omega) (pX5_first hn (fun _ => ?_) (fun b _ => absurd b hb) (fun b _ => absurd b hb))
    intros
    refine x_icmp_eq 1712 dL_law_1300 (by decide) (fun _ => ?_) (fun c_ => absurd (rfl) c_)
    exact go_fin (kN := kN) hG ⟨hn, by omega, hLk, hP, hHs, hSi, hSh, hIm, hFx⟩ (by omega) (by omega)
theorem law_36 {L : Nat} {xs : Nat → Int32} {k i ce sl : Nat} {h : AHp} (hi : i + 6 ≤ L) (hLL : L < 1000) (hce : ce ≤ 593672) (hsl : sl ≤ 7149314) (hC : Can k h) (hG : GoL L xs k i ce sl) : RchX (ScP L xs) JL ce sl 1387 [some (.ref 4), some (.ref 1), some (.ref 0), some (.int (nI i))] [] h := by
  obtain ⟨th, kd, ow, ag, lk, co, sh, hs, tp, hd, rl, ro, rf, ol, ah, tr, od, tk, fo, wi, ou, ge, mo, ev, se, fr, to, tn, va, im, lo, iv, tP, tL, tA, tK, tC, tS, tH, tN, tE, tZ, tf, mP, mf, eP, eT, eF, ef, eg, ew, rx, gx, wx, hv, rc, ic, pf, lc, n, t, kN, rfl, hcp⟩ := hC
  obtain ⟨hn, htk, hLk, hP, hHs, hSi, hSh, hIm, hFx⟩ := hcp
  have hLI := lkI_of hn hLk
  obtain ⟨hk, ho⟩ := lkH_of hLk
  have hNn := nl_none n
  by_cases hb : (inB (xs (i + 1)) 0 (nI n - 1) && (inB (xs (i + 2)) 0 (nI n - 1) && xs (i + 1) != xs (i + 2))) = true
  · refine x_aload_n dL_law_1387 rfl ?_
    refine x_aload_n dL_law_1388 rfl ?_
    refine x_iload_n dL_law_1389 rfl ?_
    refine x_iconst 1 dL_law_1390 (by decide) ?_
    refine x_iadd dL_law_1391 ?_
    refine x_sldE (j := i + 1) dL_law_1392 (nI_add i 1) (by omega) hLL ?_
    refine x_aload_n dL_law_1393 rfl ?_
    refine x_iload_n dL_law_1394 rfl ?_
    refine x_iconst 2 dL_law_1395 (by decide) ?_
    refine x_iadd dL_law_1396 ?_
    refine x_sldE (j := i + 2) dL_law_1397 (nI_add i 2) (by omega) hLL ?_
    refine x_callV (as := [_, _]) okX0_exchanged bX0 rfl rfl q1297 dL_law_1398 (Nat.le_of_ble_eq_true rfl) rfl (Nat.le_of_ble_eq_true rfl) (by show _ ≤ 603072; omega) (by show _ ≤ 7262314; omega) (pX0_exchanged hn hLI hNn hP (fun z => absurd (hb.symm.trans z) (by decide)) (fun x1 y1 hx1 hy1 ne1 e1 f1 => ?_))
    intros
    refine x_aload_n dL_law_1401 rfl ?_
    refine x_aload_n dL_law_1402 rfl ?_
    refine x_iload_n dL_law_1403 rfl ?_
    refine x_iconst 1 dL_law_1404 (by decide) ?_
    refine x_iadd dL_law_1405 ?_
    refine x_sldE (j := i + 1) dL_law_1406 (nI_add i 1) (by omega) hLL ?_
    refine x_aload_n dL_law_1407 rfl ?_
    refine x_iload_n dL_law_1408 rfl ?_
    refine x_iconst 2 dL_law_1409 (by decide) ?_
    refine x_iadd dL_law_1410 ?_
    refine x_sldE (j := i + 2) dL_law_1411 (nI_add i 2) (by omega) hLL ?_
    refine x_callV (as := [_, _]) okX5_exchanged bX5 rfl rfl q1915 dL_law_1412 (Nat.le_of_ble_eq_true rfl) rfl (Nat.le_of_ble_eq_true rfl) (by show _ ≤ 603072; omega) (by show _ ≤ 7262314; omega) (pX5_exchanged hn hk ho (fun z => absurd (hb.symm.trans z) (by decide)) (fun x2 y2 hx2 hy2 ne2 e2 f2 => ?_))
    intros
    obtain rfl := nJ (by omega) (by omega) e1 e2
    obtain rfl := nJ (by omega) (by omega) f1 f2
    refine x_icmp_eq 1712 dL_law_1415 (by decide) (fun _ => ?_) (fun c_ => absurd (rfl) c_)
    exact go_fin (kN := kN) hG ⟨hn, by omega, hLk, hP, hHs, hSi, hSh, hIm, hFx⟩ (by omega) (by omega)
  · refine x_aload_n dL_law_1387 rfl ?_
    refine x_aload_n dL_law_1388 rfl ?_
    refine x_iload_n dL_law_1389 rfl ?_
    refine x_iconst 1 dL_law_1390 (by decide) ?_
    refine x_iadd dL_law_1391 ?_
    refine x_sldE (j := i + 1) dL_law_1392 (nI_add i 1) (by omega) hLL ?_
    refine x_aload_n dL_law_1393 rfl ?_
    refine x_iload_n dL_law_1394 rfl ?_
    refine x_iconst 2 dL_law_1395 (by decide) ?_
    refine x_iadd dL_law_1396 ?_
    refine x_sldE (j := i + 2) dL_law_1397 (nI_add i 2) (by omega) hLL ?_
    refine x_callV (as := [_, _]) okX0_exchanged bX0 rfl rfl q1297 dL_law_1398 (Nat.le_of_ble_eq_true rfl) rfl (Nat.le_of_ble_eq_true rfl) (by show _ ≤ 603072; omega) (by show _ ≤ 7262314; omega) (pX0_exchanged hn hLI hNn hP (fun _ => ?_) (fun x y hx hy hne e1 e2 => absurd (by rw [inL hx hn e1, inL hy hn e2, show (xs (i + 1) != xs (i + 2)) = true by rw [e1, e2]; exact bne_iff_ne.mpr (fun z => hne ((nI_eq (by omega) (by omega)).mp z))] <;> rfl) hb))
    intros
    refine x_aload_n dL_law_1401 rfl ?_
    refine x_aload_n dL_law_1402 rfl ?_
    refine x_iload_n dL_law_1403 rfl ?_
    refine x_iconst 1 dL_law_1404 (by decide) ?_
    refine x_iadd dL_law_1405 ?_
    refine x_sldE (j := i + 1) dL_law_1406 (nI_add i 1) (by omega) hLL ?_
    refine x_aload_n dL_law_1407 rfl ?_
    refine x_iload_n dL_law_1408 rfl ?_
    refine x_iconst 2 dL_law_1409 (by decide) ?_
    refine x_iadd dL_law_1410 ?_
    refine x_sldE (j := i + 2) dL_law_1411 (nI_add i 2) (by omega) hLL ?_
    refine x_callV (as := [_, _]) okX5_exchanged bX5 rfl rfl q1915 dL_law_1412 (Nat.le_of_ble_eq_true rfl) rfl (Nat.le_of_ble_eq_true rfl) (by show _ ≤ 603072; omega) (by show _ ≤ 7262314; omega) (pX5_exchanged hn hk ho (fun _ => ?_) (fun x y hx hy hne e1 e2 => absurd (by rw [inL hx hn e1, inL hy hn e2, show (xs (i + 1) != xs (i + 2)) = true by rw [e1, e2]; exact bne_iff_ne.mpr (fun z => hne ((nI_eq (by omega) (by omega)).mp z))] <;> rfl) hb))
    intros
    refine x_icmp_eq 1712 dL_law_1415 (by decide) (fun _ => ?_) (fun c_ => absurd (rfl) c_)
    exact go_fin (kN := kN) hG ⟨hn, by omega, hLk, hP, hHs, hSi, hSh, hIm, hFx⟩ (by omega) (by omega)
theorem law_7 {L : Nat} {xs : Nat → Int32} {k i ce sl : Nat} {h : AHp} (hi : i + 6 ≤ L) (hLL : L < 1000) (hce : ce ≤ 593672) (hsl : sl ≤ 7149314) (hC : Can k h) (hG : GoL L xs k i ce sl) : RchX (ScP L xs) JL ce sl 554 [some (.ref 4), some (.ref 1), some (.ref 0), some (.int (nI i))] [] h := by
  obtain ⟨th, kd, ow, ag, lk, co, sh, hs, tp, hd, rl, ro, rf, ol, ah, tr, od, tk, fo, wi, ou, ge, mo, ev, se, fr, to, tn, va, im, lo, iv, tP, tL, tA, tK, tC, tS, tH, tN, tE, tZ, tf, mP, mf, eP, eT, eF, ef, eg, ew, rx, gx, wx, hv, rc, ic, pf, lc, n, t, kN, rfl, hcp⟩ := hC
  obtain ⟨hn, htk, hLk, hP, hHs, hSi, hSh, hIm, hFx⟩ := hcp
  have hLI := lkI_of hn hLk
  obtain ⟨hk, ho⟩ := lkH_of hLk
  have hNn := nl_none n
  by_cases hb : (inB (xs (i + 1)) 0 11 && inB (xs (i + 2)) (-1) 7) = true
  · refine x_aload_n dL_law_554 rfl ?_
    refine x_aload_n dL_law_555 rfl ?_
    refine x_iload_n dL_law_556 rfl ?_
    refine x_iconst 1 dL_law_557 (by decide) ?_
    refine x_iadd dL_law_558 ?_
    refine x_sldE (j := i + 1) dL_law_559 (nI_add i 1) (by omega) hLL ?_
    refine x_aload_n dL_law_560 rfl ?_
    refine x_iload_n dL_law_561 rfl ?_
    refine x_iconst 2 dL_law_562 (by decide) ?_
    refine x_iadd dL_law_563 ?_
    refine x_sldE (j := i + 2) dL_law_564 (nI_add i 2) (by omega) hLL ?_
    refine x_callV (as := [_, _]) okX0_place bX0 rfl rfl q647 dL_law_565 (Nat.le_of_ble_eq_true rfl) rfl (Nat.le_of_ble_eq_true rfl) (by show _ ≤ 603072; omega) (by show _ ≤ 7262314; omega) (pX0_place (fun z => absurd (hb.symm.trans z) (by decide)) (fun j1 hj1 e1 b1 => ?_))
    intros
    refine x_aload_n dL_law_568 rfl ?_
    refine x_aload_n dL_law_569 rfl ?_
    refine x_iload_n dL_law_570 rfl ?_
    refine x_iconst 1 dL_law_571 (by decide) ?_
    refine x_iadd dL_law_572 ?_
    refine x_sldE (j := i + 1) dL_law_573 (nI_add i 1) (by omega) hLL ?_
    refine x_aload_n dL_law_574 rfl ?_
    refine x_iload_n dL_law_575 rfl ?_
    refine x_iconst 2 dL_law_576 (by decide) ?_
    refine x_iadd dL_law_577 ?_
    refine x_sldE (j := i + 2) dL_law_578 (nI_add i 2) (by omega) hLL ?_
    refine x_callV (as := [_, _]) okX5_place bX5 rfl rfl q1726 dL_law_579 (Nat.le_of_ble_eq_true rfl) rfl (Nat.le_of_ble_eq_true rfl) (by show _ ≤ 603072; omega) (by show _ ≤ 7262314; omega) (pX5_place (fun z => absurd (hb.symm.trans z) (by decide)) (fun j2 hj2 e2 b2 => ?_))
    intros
    obtain rfl := nJ (by omega) (by omega) e1 e2
    refine x_icmp_eq 1712 dL_law_582 (by decide) (fun _ => ?_) (fun c_ => absurd (rfl) c_)
    exact go_fin (kN := kN) hG ⟨hn, by omega, hLk, thI_upd hP b1, hHs, hSi, hSh, hIm, hFx⟩ (by omega) (by omega)
  · refine x_aload_n dL_law_554 rfl ?_
    refine x_aload_n dL_law_555 rfl ?_
    refine x_iload_n dL_law_556 rfl ?_
    refine x_iconst 1 dL_law_557 (by decide) ?_
    refine x_iadd dL_law_558 ?_
    refine x_sldE (j := i + 1) dL_law_559 (nI_add i 1) (by omega) hLL ?_
    refine x_aload_n dL_law_560 rfl ?_
    refine x_iload_n dL_law_561 rfl ?_
    refine x_iconst 2 dL_law_562 (by decide) ?_
    refine x_iadd dL_law_563 ?_
    refine x_sldE (j := i + 2) dL_law_564 (nI_add i 2) (by omega) hLL ?_
    refine x_callV (as := [_, _]) okX0_place bX0 rfl rfl q647 dL_law_565 (Nat.le_of_ble_eq_true rfl) rfl (Nat.le_of_ble_eq_true rfl) (by show _ ≤ 603072; omega) (by show _ ≤ 7262314; omega) (pX0_place (fun _ => ?_) (fun j hj e b => absurd (by rw [inP hj e, b] <;> rfl) hb))
    intros
    refine x_aload_n dL_law_568 rfl ?_
    refine x_aload_n dL_law_569 rfl ?_
    refine x_iload_n dL_law_570 rfl ?_
    refine x_iconst 1 dL_law_571 (by decide) ?_
    refine x_iadd dL_law_572 ?_
    refine x_sldE (j := i + 1) dL_law_573 (nI_add i 1) (by omega) hLL ?_
    refine x_aload_n dL_law_574 rfl ?_
    refine x_iload_n dL_law_575 rfl ?_
    refine x_iconst 2 dL_law_576 (by decide) ?_
    refine x_iadd dL_law_577 ?_
    refine x_sldE (j := i + 2) dL_law_578 (nI_add i 2) (by omega) hLL ?_
    refine x_callV (as := [_, _]) okX5_place bX5 rfl rfl q1726 dL_law_579 (Nat.le_of_ble_eq_true rfl) rfl (Nat.le_of_ble_eq_true rfl) (by show _ ≤ 603072; omega) (by show _ ≤ 7262314; omega) (pX5_place (fun _ => ?_) (fun j hj e b => absurd (by rw [inP hj e, b] <;> rfl) hb))
    intros
    refine x_icmp_eq 1712 dL_law_582 (by decide) (fun _ => ?_) (fun c_ => absurd (rfl) c_)
    exact go_fin (kN := kN) hG ⟨hn, by omega, hLk, hP, hHs, hSi, hSh, hIm, hFx⟩ (by omega) (by omega)
