set_option maxRecDepth 100000
/-! the law's cases (printed by gen/ops.py) -/
theorem in5L {v : Int32} {z : Nat} (h : z < 6) (e : v = nI z) : inB v 0 5 = true := by rw [e]; exact inB_mI (m := 6) h (by omega)
theorem in107 {v : Int32} {z : Nat} (h : z < 8) (e : v = nI (10 + z)) : inB (v - 10) 0 7 = true := by
  have : ∀ z, z < 8 → inB (nI (10 + z) - 10) 0 7 = true := by decide
  rw [e]
  exact this z h
theorem nlF_at {n x : Nat} (h : x < n) : nlF n x = some (8 * x + 74) := by unfold nlF; rw [if_pos h]
theorem shC_none {hd rl : Nat → Int32} {ro : Nat → Int64} {hv : Nat → Value} {rc : Nat → AC} {n j : Nat} (h : ShC hd rl ro hv rc n) : ShC (upd hd j (-1)) rl ro (va_up hv j .null) rc n := by
  intro s hs
  by_cases e : s = j
  · exact Or.inl ⟨by simp [upd, e], by simp [va_up, e]⟩
  · rw [show upd hd j (-1) s = hd s by simp [upd, e], show va_up hv j .null s = hv s by simp [va_up, e]]
    exact h s hs
theorem shC_look {hd rl : Nat → Int32} {ro : Nat → Int64} {hv : Nat → Value} {rc : Nat → AC} {n j x : Nat} (hx : x < n) (h : ShC hd rl ro hv rc n) : ShC (upd hd j (nI (10 + x))) rl ro (va_up hv j (.ref (8 * x + 74))) rc n := by
  intro s hs
  by_cases e : s = j
  · exact Or.inr (Or.inr ⟨x, hx, by simp [upd, e], by simp [va_up, e]⟩)
  · rw [show upd hd j (nI (10 + x)) s = hd s by simp [upd, e], show va_up hv j (.ref (8 * x + 74)) s = hv s by simp [va_up, e]]
    exact h s hs
theorem fxA_hv {hv : Nat → Value} {iv : Value} {rc ic lc : Nat → AC} {j : Nat} {v : Value} (h : FxA hv iv rc ic lc) (hv2 : FxV v) : FxA (va_up hv j v) iv rc ic lc := by
  refine ⟨fun s hs => ?_, h.2⟩
  by_cases e : s = j
  · rw [show va_up hv j v s = v by simp [va_up, e]]; exact hv2
  · rw [show va_up hv j v s = hv s by simp [va_up, e]]; exact h.1 s hs
theorem law_15 {L : Nat} {xs : Nat → Int32} {k i ce sl : Nat} {h : AHp} (hi : i + 6 ≤ L) (hLL : L < 1000) (hce : ce ≤ 593672) (hsl : sl ≤ 7149314) (hC : Can k h) (hG : GoL L xs k i ce sl) : RchX (ScP L xs) JL ce sl 804 [some (.ref 4), some (.ref 1), some (.ref 0), some (.int (nI i))] [] h := by
  obtain ⟨th, kd, ow, ag, lk, co, sh, hs, tp, hd, rl, ro, rf, ol, ah, tr, od, tk, fo, wi, ou, ge, mo, ev, se, fr, to, tn, va, im, lo, iv, tP, tL, tA, tK, tC, tS, tH, tN, tE, tZ, tf, mP, mf, eP, eT, eF, ef, eg, ew, rx, gx, wx, hv, rc, ic, pf, lc, n, t, kN, rfl, hcp⟩ := hC
  obtain ⟨hn, htk, hLk, hP, hHs, hSi, hSh, hIm, hFx⟩ := hcp
  have hLI := lkI_of hn hLk
  obtain ⟨hk, ho⟩ := lkH_of hLk
  have hNn := nl_none n
  by_cases hb : inB (xs (i + 1)) 0 (nI n - 1) = true
  · obtain ⟨j, hj, ej⟩ := inB_m hb (by omega)
    by_cases c1 : inB (xs (i + 2)) 0 5 = true
    · obtain ⟨z, hz, ez⟩ : ∃ z, z < 6 ∧ xs (i + 2) = nI z := inB_m (m := 6) c1 (by omega)
      refine x_aload_n dL_law_804 rfl ?_
      refine x_aload_n dL_law_805 rfl ?_
      refine x_iload_n dL_law_806 rfl ?_
      refine x_iconst 1 dL_law_807 (by decide) ?_
      refine x_iadd dL_law_808 ?_
      refine x_sldE (j := i + 1) dL_law_809 (nI_add i 1) (by omega) hLL ?_
      refine x_aload_n dL_law_810 rfl ?_
      refine x_iload_n dL_law_811 rfl ?_
      refine x_iconst 2 dL_law_812 (by decide) ?_
      refine x_iadd dL_law_813 ?_
      refine x_sldE (j := i + 2) dL_law_814 (nI_add i 2) (by omega) hLL ?_
      rw [ej]
      refine x_callV (as := [_, _]) okX0_lookerOf bX0 rfl rfl q1191 dL_law_815 (Nat.le_of_ble_eq_true rfl) rfl (Nat.le_of_ble_eq_true rfl) (by show _ ≤ 603072; omega) (by show _ ≤ 7262314; omega) (pX0_lookerOf (kd := kd) hn hLI hP (fun j hj => (hk j hj).1) hj (fun z1 hz1 e1 => ?_) (fun z1 hz1 e1 => absurd (nJ (by omega) (by omega) ez e1) (by omega)) (fun a _ => absurd (c1.symm.trans a) (by decide)))
      intros
      refine x_aload_n dL_law_818 rfl ?_
      refine x_aload_n dL_law_819 rfl ?_
      refine x_iload_n dL_law_820 rfl ?_
      refine x_iconst 1 dL_law_821 (by decide) ?_
      refine x_iadd dL_law_822 ?_
      refine x_sldE (j := i + 1) dL_law_823 (nI_add i 1) (by omega) hLL ?_
      refine x_aload_n dL_law_824 rfl ?_
      refine x_iload_n dL_law_825 rfl ?_
      refine x_iconst 2 dL_law_826 (by decide) ?_
      refine x_iadd dL_law_827 ?_
      refine x_sldE (j := i + 2) dL_law_828 (nI_add i 2) (by omega) hLL ?_
      rw [ej]
      refine x_callV (as := [_, _]) okX5_lookerOf bX5 rfl rfl q1816 dL_law_829 (Nat.le_of_ble_eq_true rfl) rfl (Nat.le_of_ble_eq_true rfl) (by show _ ≤ 603072; omega) (by show _ ≤ 7262314; omega) (pX5_lookerOf hn hj (fun z2 hz2 e2 => ?_) (fun z1 hz1 e1 => absurd (nJ (by omega) (by omega) ez e1) (by omega)) (fun a _ => absurd (c1.symm.trans a) (by decide)))
      intros
      obtain rfl := nJ (by omega) (by omega) e1 e2
      refine x_icmp_eq 1712 dL_law_832 (by decide) (fun _ => ?_) (fun c_ => absurd (rfl) c_)
      exact go_fin (kN := kN) hG ⟨hn, by omega, hLk, hP, hHs, hSi, hSh, hIm, hFx⟩ (by omega) (by omega)
    · by_cases c2 : inB (xs (i + 2) - 10) 0 7 = true
      · refine x_aload_n dL_law_804 rfl ?_
        refine x_aload_n dL_law_805 rfl ?_
        refine x_iload_n dL_law_806 rfl ?_
        refine x_iconst 1 dL_law_807 (by decide) ?_
        refine x_iadd dL_law_808 ?_
        refine x_sldE (j := i + 1) dL_law_809 (nI_add i 1) (by omega) hLL ?_
        refine x_aload_n dL_law_810 rfl ?_
        refine x_iload_n dL_law_811 rfl ?_
        refine x_iconst 2 dL_law_812 (by decide) ?_
        refine x_iadd dL_law_813 ?_
        refine x_sldE (j := i + 2) dL_law_814 (nI_add i 2) (by omega) hLL ?_
        rw [ej]
        refine x_callV (as := [_, _]) okX0_lookerOf bX0 rfl rfl q1191 dL_law_815 (Nat.le_of_ble_eq_true rfl) rfl (Nat.le_of_ble_eq_true rfl) (by show _ ≤ 603072; omega) (by show _ ≤ 7262314; omega) (pX0_lookerOf (kd := kd) hn hLI hP (fun j hj => (hk j hj).1) hj (fun z1 hz1 e1 => absurd (in5L hz1 e1) c1) (fun z1 hz1 e1 => ?_) (fun _ b => absurd (c2.symm.trans b) (by decide)))
        intros
        refine x_aload_n dL_law_818 rfl ?_
        refine x_aload_n dL_law_819 rfl ?_
        refine x_iload_n dL_law_820 rfl ?_
        refine x_iconst 1 dL_law_821 (by decide) ?_
        refine x_iadd dL_law_822 ?_
        refine x_sldE (j := i + 1) dL_law_823 (nI_add i 1) (by omega) hLL ?_
        refine x_aload_n dL_law_824 rfl ?_
        refine x_iload_n dL_law_825 rfl ?_
        refine x_iconst 2 dL_law_826 (by decide) ?_
        refine x_iadd dL_law_827 ?_
        refine x_sldE (j := i + 2) dL_law_828 (nI_add i 2) (by omega) hLL ?_
        rw [ej]
        refine x_callV (as := [_, _]) okX5_lookerOf bX5 rfl rfl q1816 dL_law_829 (Nat.le_of_ble_eq_true rfl) rfl (Nat.le_of_ble_eq_true rfl) (by show _ ≤ 603072; omega) (by show _ ≤ 7262314; omega) (pX5_lookerOf hn hj (fun z1 hz1 e1 => absurd (in5L hz1 e1) c1) (fun z2 hz2 e2 => ?_) (fun _ b => absurd (c2.symm.trans b) (by decide)))
        intros
        obtain rfl : z2 = z1 := by
          have := nJ (by omega) (by omega) e1 e2
          omega
        refine x_icmp_eq 1712 dL_law_832 (by decide) (fun _ => ?_) (fun c_ => absurd (rfl) c_)
        exact go_fin (kN := kN) hG ⟨hn, by omega, hLk, hP, hHs, hSi, hSh, hIm, hFx⟩ (by omega) (by omega)
      · refine x_aload_n dL_law_804 rfl ?_
        refine x_aload_n dL_law_805 rfl ?_
        refine x_iload_n dL_law_806 rfl ?_
        refine x_iconst 1 dL_law_807 (by decide) ?_
        refine x_iadd dL_law_808 ?_
        refine x_sldE (j := i + 1) dL_law_809 (nI_add i 1) (by omega) hLL ?_
        refine x_aload_n dL_law_810 rfl ?_
        refine x_iload_n dL_law_811 rfl ?_
        refine x_iconst 2 dL_law_812 (by decide) ?_
        refine x_iadd dL_law_813 ?_
        refine x_sldE (j := i + 2) dL_law_814 (nI_add i 2) (by omega) hLL ?_
        rw [ej]
        refine x_callV (as := [_, _]) okX0_lookerOf bX0 rfl rfl q1191 dL_law_815 (Nat.le_of_ble_eq_true rfl) rfl (Nat.le_of_ble_eq_true rfl) (by show _ ≤ 603072; omega) (by show _ ≤ 7262314; omega) (pX0_lookerOf (kd := kd) hn hLI hP (fun j hj => (hk j hj).1) hj (fun z1 hz1 e1 => absurd (in5L hz1 e1) c1) (fun z1 hz1 e1 => absurd (in107 hz1 e1) c2) (fun _ _ => ?_))
        intros
        refine x_aload_n dL_law_818 rfl ?_
        refine x_aload_n dL_law_819 rfl ?_
        refine x_iload_n dL_law_820 rfl ?_
        refine x_iconst 1 dL_law_821 (by decide) ?_
        refine x_iadd dL_law_822 ?_
        refine x_sldE (j := i + 1) dL_law_823 (nI_add i 1) (by omega) hLL ?_
        refine x_aload_n dL_law_824 rfl ?_
        refine x_iload_n dL_law_825 rfl ?_
        refine x_iconst 2 dL_law_826 (by decide) ?_
        refine x_iadd dL_law_827 ?_
        refine x_sldE (j := i + 2) dL_law_828 (nI_add i 2) (by omega) hLL ?_
        rw [ej]
        refine x_callV (as := [_, _]) okX5_lookerOf bX5 rfl rfl q1816 dL_law_829 (Nat.le_of_ble_eq_true rfl) rfl (Nat.le_of_ble_eq_true rfl) (by show _ ≤ 603072; omega) (by show _ ≤ 7262314; omega) (pX5_lookerOf hn hj (fun z1 hz1 e1 => absurd (in5L hz1 e1) c1) (fun z1 hz1 e1 => absurd (in107 hz1 e1) c2) (fun _ _ => ?_))
        intros
        refine x_icmp_eq 1712 dL_law_832 (by decide) (fun _ => ?_) (fun c_ => absurd (rfl) c_)
        exact go_fin (kN := kN) hG ⟨hn, by omega, hLk, hP, hHs, hSi, hSh, hIm, hFx⟩ (by omega) (by omega)
  · refine x_aload_n dL_law_804 rfl ?_
    refine x_aload_n dL_law_805 rfl ?_
    refine x_iload_n dL_law_806 rfl ?_
    refine x_iconst 1 dL_law_807 (by decide) ?_
    refine x_iadd dL_law_808 ?_
    refine x_sldE (j := i + 1) dL_law_809 (nI_add i 1) (by omega) hLL ?_
    refine x_aload_n dL_law_810 rfl ?_
    refine x_iload_n dL_law_811 rfl ?_
    refine x_iconst 2 dL_law_812 (by decide) ?_
    refine x_iadd dL_law_813 ?_
    refine x_sldE (j := i + 2) dL_law_814 (nI_add i 2) (by omega) hLL ?_
    refine x_callV (as := [_, _]) okX0_lookerOf bX0 rfl rfl q1191 dL_law_815 (Nat.le_of_ble_eq_true rfl) rfl (Nat.le_of_ble_eq_true rfl) (by show _ ≤ 603072; omega) (by show _ ≤ 7262314; omega) (pX0_lookerOf_bad (Bool.not_eq_true _ |>.mp hb) ?_)
    intros
    refine x_aload_n dL_law_818 rfl ?_
    refine x_aload_n dL_law_819 rfl ?_
    refine x_iload_n dL_law_820 rfl ?_
    refine x_iconst 1 dL_law_821 (by decide) ?_
    refine x_iadd dL_law_822 ?_
    refine x_sldE (j := i + 1) dL_law_823 (nI_add i 1) (by omega) hLL ?_
    refine x_aload_n dL_law_824 rfl ?_
    refine x_iload_n dL_law_825 rfl ?_
    refine x_iconst 2 dL_law_826 (by decide) ?_
    refine x_iadd dL_law_827 ?_
    refine x_sldE (j := i + 2) dL_law_828 (nI_add i 2) (by omega) hLL ?_
    refine x_callV (as := [_, _]) okX5_lookerOf bX5 rfl rfl q1816 dL_law_829 (Nat.le_of_ble_eq_true rfl) rfl (Nat.le_of_ble_eq_true rfl) (by show _ ≤ 603072; omega) (by show _ ≤ 7262314; omega) (pX5_lookerOf_bad (Bool.not_eq_true _ |>.mp hb) ?_)
    intros
    refine x_icmp_eq 1712 dL_law_832 (by decide) (fun _ => ?_) (fun c_ => absurd (rfl) c_)
    exact go_fin (kN := kN) hG ⟨hn, by omega, hLk, hP, hHs, hSi, hSh, hIm, hFx⟩ (by omega) (by omega)
theorem law_5 {L : Nat} {xs : Nat → Int32} {k i ce sl : Nat} {h : AHp} (hi : i + 6 ≤ L) (hLL : L < 1000) (hce : ce ≤ 593672) (hsl : sl ≤ 7149314) (hC : Can k h) (hG : GoL L xs k i ce sl) : RchX (ScP L xs) JL ce sl 488 [some (.ref 4), some (.ref 1), some (.ref 0), some (.int (nI i))] [] h := by
  obtain ⟨th, kd, ow, ag, lk, co, sh, hs, tp, hd, rl, ro, rf, ol, ah, tr, od, tk, fo, wi, ou, ge, mo, ev, se, fr, to, tn, va, im, lo, iv, tP, tL, tA, tK, tC, tS, tH, tN, tE, tZ, tf, mP, mf, eP, eT, eF, ef, eg, ew, rx, gx, wx, hv, rc, ic, pf, lc, n, t, kN, rfl, hcp⟩ := hC
  obtain ⟨hn, htk, hLk, hP, hHs, hSi, hSh, hIm, hFx⟩ := hcp
  have hLI := lkI_of hn hLk
  obtain ⟨hk, ho⟩ := lkH_of hLk
  have hNn := nl_none n
  by_cases hb : (inB (xs (i + 1)) 0 7 && (xs (i + 2) == -1 || inB (xs (i + 2)) 0 (nI n - 1))) = true
  · have hb2 := hb
    rw [Bool.and_eq_true] at hb2
    obtain ⟨j, hj, ej⟩ : ∃ j, j < 8 ∧ xs (i + 1) = nI j := inB_m (m := 8) hb2.1 (by omega)
    by_cases hm : xs (i + 2) = -1
    · refine x_aload_n dL_law_488 rfl ?_
      refine x_aload_n dL_law_489 rfl ?_
      refine x_iload_n dL_law_490 rfl ?_
      refine x_iconst 1 dL_law_491 (by decide) ?_
      refine x_iadd dL_law_492 ?_
      refine x_sldE (j := i + 1) dL_law_493 (nI_add i 1) (by omega) hLL ?_
      refine x_aload_n dL_law_494 rfl ?_
      refine x_iload_n dL_law_495 rfl ?_
      refine x_iconst 2 dL_law_496 (by decide) ?_
      refine x_iadd dL_law_497 ?_
      refine x_sldE (j := i + 2) dL_law_498 (nI_add i 2) (by omega) hLL ?_
      rw [ej, hm]
      refine x_callV (as := [_, _]) okX0_show bX0 rfl rfl q515 dL_law_499 (Nat.le_of_ble_eq_true rfl) rfl (Nat.le_of_ble_eq_true rfl) (by show _ ≤ 603072; omega) (by show _ ≤ 7262314; omega) (pX0_show_0 hj ?_)
      intros
      refine x_aload_n dL_law_502 rfl ?_
      refine x_aload_n dL_law_503 rfl ?_
      refine x_iload_n dL_law_504 rfl ?_
      refine x_iconst 1 dL_law_505 (by decide) ?_
      refine x_iadd dL_law_506 ?_
      refine x_sldE (j := i + 1) dL_law_507 (nI_add i 1) (by omega) hLL ?_
      refine x_aload_n dL_law_508 rfl ?_
      refine x_iload_n dL_law_509 rfl ?_
      refine x_iconst 2 dL_law_510 (by decide) ?_
      refine x_iadd dL_law_511 ?_
      refine x_sldE (j := i + 2) dL_law_512 (nI_add i 2) (by omega) hLL ?_
      refine x_callV (as := [_, _]) okX5_show bX5 rfl rfl q1664 dL_law_513 (Nat.le_of_ble_eq_true rfl) rfl (Nat.le_of_ble_eq_true rfl) (by show _ ≤ 603072; omega) (by show _ ≤ 7262314; omega) (pX5_show (fun z => absurd (hb.symm.trans z) (by decide)) (fun j2 hj2 e2 _ => ?_) (fun j2 hj2 e2 _ z => absurd hm z))
      intros
      obtain rfl := nJ (by omega) (by omega) ej e2
      refine x_icmp_eq 1712 dL_law_516 (by decide) (fun _ => ?_) (fun c_ => absurd (rfl) c_)
      exact go_fin (kN := kN) hG ⟨hn, by omega, hLk, hP, hHs, hSi, shC_none hSh, hIm, fxA_hv hFx FxV.null⟩ (by omega) (by omega)
    · have hx : inB (xs (i + 2)) 0 (nI n - 1) = true := by
        have q := hb2.2
        rw [show (xs (i + 2) == -1) = false by simpa using hm, Bool.false_or] at q
        exact q
      obtain ⟨x, hx2, ex⟩ := inB_m hx (by omega)
      refine x_aload_n dL_law_488 rfl ?_
      refine x_aload_n dL_law_489 rfl ?_
      refine x_iload_n dL_law_490 rfl ?_
      refine x_iconst 1 dL_law_491 (by decide) ?_
      refine x_iadd dL_law_492 ?_
      refine x_sldE (j := i + 1) dL_law_493 (nI_add i 1) (by omega) hLL ?_
      refine x_aload_n dL_law_494 rfl ?_
      refine x_iload_n dL_law_495 rfl ?_
      refine x_iconst 2 dL_law_496 (by decide) ?_
      refine x_iadd dL_law_497 ?_
      refine x_sldE (j := i + 2) dL_law_498 (nI_add i 2) (by omega) hLL ?_
      rw [ej, ex]
      refine x_callV (as := [_, _]) okX0_show bX0 rfl rfl q515 dL_law_499 (Nat.le_of_ble_eq_true rfl) rfl (Nat.le_of_ble_eq_true rfl) (by show _ ≤ 603072; omega) (by show _ ≤ 7262314; omega) (pX0_show_l hj hn hx2 (nlF_at hx2) ?_)
      intros
      refine x_aload_n dL_law_502 rfl ?_
      refine x_aload_n dL_law_503 rfl ?_
      refine x_iload_n dL_law_504 rfl ?_
      refine x_iconst 1 dL_law_505 (by decide) ?_
      refine x_iadd dL_law_506 ?_
      refine x_sldE (j := i + 1) dL_law_507 (nI_add i 1) (by omega) hLL ?_
      refine x_aload_n dL_law_508 rfl ?_
      refine x_iload_n dL_law_509 rfl ?_
      refine x_iconst 2 dL_law_510 (by decide) ?_
      refine x_iadd dL_law_511 ?_
      refine x_sldE (j := i + 2) dL_law_512 (nI_add i 2) (by omega) hLL ?_
      refine x_callV (as := [_, _]) okX5_show bX5 rfl rfl q1664 dL_law_513 (Nat.le_of_ble_eq_true rfl) rfl (Nat.le_of_ble_eq_true rfl) (by show _ ≤ 603072; omega) (by show _ ≤ 7262314; omega) (pX5_show (fun z => absurd (hb.symm.trans z) (by decide)) (fun j2 hj2 e2 z => absurd z hm) (fun j2 hj2 e2 _ _ => ?_))
      intros
      obtain rfl := nJ (by omega) (by omega) ej e2
      rw [ex, show (10 : Int32) + nI x = nI (10 + x) from nI_add 10 x]
      refine x_icmp_eq 1712 dL_law_516 (by decide) (fun _ => ?_) (fun c_ => absurd (rfl) c_)
      exact go_fin (kN := kN) hG ⟨hn, by omega, hLk, hP, hHs, hSi, shC_look hx2 hSh, hIm, fxA_hv hFx (FxV.ref (by omega))⟩ (by omega) (by omega)
  · refine x_aload_n dL_law_488 rfl ?_
    refine x_aload_n dL_law_489 rfl ?_
    refine x_iload_n dL_law_490 rfl ?_
    refine x_iconst 1 dL_law_491 (by decide) ?_
    refine x_iadd dL_law_492 ?_
    refine x_sldE (j := i + 1) dL_law_493 (nI_add i 1) (by omega) hLL ?_
    refine x_aload_n dL_law_494 rfl ?_
    refine x_iload_n dL_law_495 rfl ?_
    refine x_iconst 2 dL_law_496 (by decide) ?_
    refine x_iadd dL_law_497 ?_
    refine x_sldE (j := i + 2) dL_law_498 (nI_add i 2) (by omega) hLL ?_
    refine x_callV (as := [_, _]) okX0_show bX0 rfl rfl q515 dL_law_499 (Nat.le_of_ble_eq_true rfl) rfl (Nat.le_of_ble_eq_true rfl) (by show _ ≤ 603072; omega) (by show _ ≤ 7262314; omega) (pX0_show_bad (Bool.not_eq_true _ |>.mp hb) ?_)
    intros
    refine x_aload_n dL_law_502 rfl ?_
    refine x_aload_n dL_law_503 rfl ?_
    refine x_iload_n dL_law_504 rfl ?_
    refine x_iconst 1 dL_law_505 (by decide) ?_
    refine x_iadd dL_law_506 ?_
    refine x_sldE (j := i + 1) dL_law_507 (nI_add i 1) (by omega) hLL ?_
    refine x_aload_n dL_law_508 rfl ?_
    refine x_iload_n dL_law_509 rfl ?_
    refine x_iconst 2 dL_law_510 (by decide) ?_
    refine x_iadd dL_law_511 ?_
    refine x_sldE (j := i + 2) dL_law_512 (nI_add i 2) (by omega) hLL ?_
    refine x_callV (as := [_, _]) okX5_show bX5 rfl rfl q1664 dL_law_513 (Nat.le_of_ble_eq_true rfl) rfl (Nat.le_of_ble_eq_true rfl) (by show _ ≤ 603072; omega) (by show _ ≤ 7262314; omega) (pX5_show (fun _ => ?_) (fun j hj e z => absurd (by rw [show inB (xs (i + 1)) 0 7 = true by rw [e]; exact inB_mI (m := 8) hj (by omega), z] <;> rfl) hb) (fun j hj e b _ => absurd (by simp [show inB (xs (i + 1)) 0 7 = true by rw [e]; exact inB_mI (m := 8) hj (by omega), b]) hb))
    intros
    refine x_icmp_eq 1712 dL_law_516 (by decide) (fun _ => ?_) (fun c_ => absurd (rfl) c_)
    exact go_fin (kN := kN) hG ⟨hn, by omega, hLk, hP, hHs, hSi, hSh, hIm, hFx⟩ (by omega) (by omega)
