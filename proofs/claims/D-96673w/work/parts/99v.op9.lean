set_option maxRecDepth 100000
/-! the law's cases (printed by gen/ops.py) -/
theorem ke_idem {k : Nat} (hk : k < 5) (v : Int64) : keF k (keF k v) = keF k v := by
  rcases (show k = 0 ∨ k = 1 ∨ k = 2 ∨ k = 3 ∨ k = 4 by omega) with rfl | rfl | rfl | rfl | rfl
  · show (v.toInt32.toInt8.toInt32.toInt64).toInt32.toInt8.toInt32.toInt64 = _
    rw [Int32.toInt32_toInt64, Int8.toInt8_toInt32]
    rfl
  · show (v.toInt32.toInt16.toInt32.toInt64).toInt32.toInt16.toInt32.toInt64 = _
    rw [Int32.toInt32_toInt64, Int16.toInt16_toInt32]
    rfl
  · show (v.toInt32.toInt64).toInt32.toInt64 = _
    rw [Int32.toInt32_toInt64]
    rfl
  · rfl
  · show (if (if v = 0 then (0 : Int64) else 1) = 0 then (0 : Int64) else 1) = if v = 0 then 0 else 1
    by_cases e : v = 0
    · rw [if_pos e, if_pos rfl]
    · rw [if_neg e, if_neg (by decide)]
theorem fxA_rc {hv : Nat → Value} {iv : Value} {rc ic lc : Nat → AC} {j : Nat} {c : AC} (h : FxA hv iv rc ic lc) (hc : Fx0 c) : FxA hv iv (va_up rc j c) ic lc := by
  refine ⟨h.1, h.2.1, fun s hs => ?_, h.2.2.2⟩
  by_cases e : s = j
  · rw [show va_up rc j c s = c by simp [va_up, e]]; exact hc
  · rw [show va_up rc j c s = rc s by simp [va_up, e]]; exact h.2.2.1 s hs
theorem shC_set {hd rl : Nat → Int32} {ro : Nat → Int64} {hv : Nat → Value} {rc : Nat → AC} {n j k m q : Nat} {f : Nat → Int64} {v : Int64} (hj : j < 8) (hk : k < 5) (hm : m ≤ 40) (h3 : hd j = nI k) (h4 : rl j = nI m) (h5 : hv j = .ref (8 * j + 249)) (h7 : ∀ q, q < m → f q = ro (40 * j + q) ∧ keF k (f q) = f q) (hq : q < m) (h : ShC hd rl ro hv rc n) : ShC hd rl (vp_updL ro (40 * j + q) (keF k v)) hv (va_up rc j (rwC k m (vp_updL f q (keF k v)))) n := by
  intro s hs
  by_cases e : s = j
  · subst e
    refine Or.inr (Or.inl ⟨k, m, vp_updL f q (keF k v), hk, hm, h3, h4, h5, by simp [va_up], fun q2 hq2 => ?_⟩)
    show (if q2 = q then keF k v else f q2) = (if 40 * s + q2 = 40 * s + q then keF k v else ro (40 * s + q2)) ∧ keF k (if q2 = q then keF k v else f q2) = if q2 = q then keF k v else f q2
    by_cases g : q2 = q
    · rw [if_pos g, if_pos (by omega)]
      exact ⟨rfl, ke_idem hk v⟩
    · rw [if_neg g, if_neg (by omega)]
      exact h7 q2 hq2
  · rw [show va_up rc j (rwC k m (vp_updL f q (keF k v))) s = rc s by simp [va_up, e]]
    rcases h s hs with z | ⟨k2, m2, f2, g1, g2, g3, g4, g5, g6, g7⟩ | z
    · exact Or.inl z
    · refine Or.inr (Or.inl ⟨k2, m2, f2, g1, g2, g3, g4, g5, g6, fun q2 hq2 => ⟨?_, (g7 q2 hq2).2⟩⟩)
      show f2 q2 = if 40 * s + q2 = 40 * j + q then keF k v else ro (40 * s + q2)
      rw [if_neg (by omega)]
      exact (g7 q2 hq2).1
    · exact Or.inr (Or.inr z)
theorem law_1 {L : Nat} {xs : Nat → Int32} {k i ce sl : Nat} {h : AHp} (hi : i + 6 ≤ L) (hLL : L < 1000) (hce : ce ≤ 593672) (hsl : sl ≤ 7149314) (hC : Can k h) (hG : GoL L xs k i ce sl) : RchX (ScP L xs) JL ce sl 295 [some (.ref 4), some (.ref 1), some (.ref 0), some (.int (nI i))] [] h := by
  obtain ⟨th, kd, ow, ag, lk, co, sh, hs, tp, hd, rl, ro, rf, ol, ah, tr, od, tk, fo, wi, ou, ge, mo, ev, se, fr, to, tn, va, im, lo, iv, tP, tL, tA, tK, tC, tS, tH, tN, tE, tZ, tf, mP, mf, eP, eT, eF, ef, eg, ew, rx, gx, wx, hv, rc, ic, pf, lc, n, t, kN, rfl, hcp⟩ := hC
  obtain ⟨hn, htk, hLk, hP, hHs, hSi, hSh, hIm, hFx⟩ := hcp
  have hLI := lkI_of hn hLk
  obtain ⟨hk, ho⟩ := lkH_of hLk
  have hNn := nl_none n
  by_cases hb : inB (xs (i + 1)) 0 7 = true
  · obtain ⟨j, hj, ej⟩ : ∃ j, j < 8 ∧ xs (i + 1) = nI j := inB_m (m := 8) hb (by omega)
    rcases hSh j hj with ⟨h1, h2⟩ | ⟨kk, m, f, h1, h2, h3, h4, h5, h6, h7⟩ | ⟨x, h1, h2, h3⟩
    · refine x_aload_n dL_law_295 rfl ?_
      refine x_aload_n dL_law_296 rfl ?_
      refine x_iload_n dL_law_297 rfl ?_
      refine x_iconst 1 dL_law_298 (by decide) ?_
      refine x_iadd dL_law_299 ?_
      refine x_sldE (j := i + 1) dL_law_300 (nI_add i 1) (by omega) hLL ?_
      refine x_aload_n dL_law_301 rfl ?_
      refine x_iload_n dL_law_302 rfl ?_
      refine x_iconst 2 dL_law_303 (by decide) ?_
      refine x_iadd dL_law_304 ?_
      refine x_sldE (j := i + 2) dL_law_305 (nI_add i 2) (by omega) hLL ?_
      refine x_aload_n dL_law_306 rfl ?_
      refine x_iload_n dL_law_307 rfl ?_
      refine x_iconst 3 dL_law_308 (by decide) ?_
      refine x_iadd dL_law_309 ?_
      refine x_sldE (j := i + 3) dL_law_310 (nI_add i 3) (by omega) hLL ?_
      refine x_i2l dL_law_311 ?_
      refine x_bipush 32 dL_law_312 (by decide) ?_
      refine x_lshl dL_law_314 ?_
      refine x_aload_n dL_law_315 rfl ?_
      refine x_iload_n dL_law_316 rfl ?_
      refine x_iconst 4 dL_law_317 (by decide) ?_
      refine x_iadd dL_law_318 ?_
      refine x_sldE (j := i + 4) dL_law_319 (nI_add i 4) (by omega) hLL ?_
      refine x_i2l dL_law_320 ?_
      refine x_ldc2 q2046 dL_law_321 ?_
      refine x_land dL_law_324 ?_
      refine x_lor dL_law_325 ?_
      rw [ej]
      refine x_xV (as := [_, _, _]) oxX0_set bX0 rfl rfl q391 dL_law_326 (Nat.le_of_ble_eq_true rfl) rfl (Nat.le_of_ble_eq_true rfl) (by show _ ≤ 603072; omega) (by show _ ≤ 7262314; omega) (pX0_set_0 hj h2 (fun _ => ?_))
      intros
      refine x_aload_n dL_law_329 rfl ?_
      refine x_aload_n dL_law_330 rfl ?_
      refine x_iload_n dL_law_331 rfl ?_
      refine x_iconst 1 dL_law_332 (by decide) ?_
      refine x_iadd dL_law_333 ?_
      refine x_sldE (j := i + 1) dL_law_334 (nI_add i 1) (by omega) hLL ?_
      refine x_aload_n dL_law_335 rfl ?_
      refine x_iload_n dL_law_336 rfl ?_
      refine x_iconst 2 dL_law_337 (by decide) ?_
      refine x_iadd dL_law_338 ?_
      refine x_sldE (j := i + 2) dL_law_339 (nI_add i 2) (by omega) hLL ?_
      refine x_aload_n dL_law_340 rfl ?_
      refine x_iload_n dL_law_341 rfl ?_
      refine x_iconst 3 dL_law_342 (by decide) ?_
      refine x_iadd dL_law_343 ?_
      refine x_sldE (j := i + 3) dL_law_344 (nI_add i 3) (by omega) hLL ?_
      refine x_i2l dL_law_345 ?_
      refine x_bipush 32 dL_law_346 (by decide) ?_
      refine x_lshl dL_law_348 ?_
      refine x_aload_n dL_law_349 rfl ?_
      refine x_iload_n dL_law_350 rfl ?_
      refine x_iconst 4 dL_law_351 (by decide) ?_
      refine x_iadd dL_law_352 ?_
      refine x_sldE (j := i + 4) dL_law_353 (nI_add i 4) (by omega) hLL ?_
      refine x_i2l dL_law_354 ?_
      refine x_ldc2 q2046 dL_law_355 ?_
      refine x_land dL_law_358 ?_
      refine x_lor dL_law_359 ?_
      rw [ej]
      refine x_callV (as := [_, _, _]) okX5_set bX5 rfl rfl q1637 dL_law_360 (Nat.le_of_ble_eq_true rfl) rfl (Nat.le_of_ble_eq_true rfl) (by show _ ≤ 603072; omega) (by show _ ≤ 7262314; omega) (pX5_set_none hj h1 ?_)
      intros
      refine x_icmp_eq 1712 dL_law_363 (by decide) (fun _ => ?_) (fun c_ => absurd (rfl) c_)
      exact go_fin (kN := kN) hG ⟨hn, by omega, hLk, hP, hHs, hSi, hSh, hIm, hFx⟩ (by omega) (by omega)
    · by_cases hv2 : vp_in (xs (i + 2)) m
      · refine x_aload_n dL_law_295 rfl ?_
        refine x_aload_n dL_law_296 rfl ?_
        refine x_iload_n dL_law_297 rfl ?_
        refine x_iconst 1 dL_law_298 (by decide) ?_
        refine x_iadd dL_law_299 ?_
        refine x_sldE (j := i + 1) dL_law_300 (nI_add i 1) (by omega) hLL ?_
        refine x_aload_n dL_law_301 rfl ?_
        refine x_iload_n dL_law_302 rfl ?_
        refine x_iconst 2 dL_law_303 (by decide) ?_
        refine x_iadd dL_law_304 ?_
        refine x_sldE (j := i + 2) dL_law_305 (nI_add i 2) (by omega) hLL ?_
        refine x_aload_n dL_law_306 rfl ?_
        refine x_iload_n dL_law_307 rfl ?_
        refine x_iconst 3 dL_law_308 (by decide) ?_
        refine x_iadd dL_law_309 ?_
        refine x_sldE (j := i + 3) dL_law_310 (nI_add i 3) (by omega) hLL ?_
        refine x_i2l dL_law_311 ?_
        refine x_bipush 32 dL_law_312 (by decide) ?_
        refine x_lshl dL_law_314 ?_
        refine x_aload_n dL_law_315 rfl ?_
        refine x_iload_n dL_law_316 rfl ?_
        refine x_iconst 4 dL_law_317 (by decide) ?_
        refine x_iadd dL_law_318 ?_
        refine x_sldE (j := i + 4) dL_law_319 (nI_add i 4) (by omega) hLL ?_
        refine x_i2l dL_law_320 ?_
        refine x_ldc2 q2046 dL_law_321 ?_
        refine x_land dL_law_324 ?_
        refine x_lor dL_law_325 ?_
        rw [ej]
        refine x_xV (as := [_, _, _]) oxX0_set bX0 rfl rfl q391 dL_law_326 (Nat.le_of_ble_eq_true rfl) rfl (Nat.le_of_ble_eq_true rfl) (by show _ ≤ 603072; omega) (by show _ ≤ 7262314; omega) (pX0_set_r hj h5 h1 h2 ((rc_at hj).trans (congrArg some h6)) (fun q1 hq1 e1 => ?_) (fun z => absurd hv2 z))
        intros
        rw [rc_set hj]
        refine x_aload_n dL_law_329 rfl ?_
        refine x_aload_n dL_law_330 rfl ?_
        refine x_iload_n dL_law_331 rfl ?_
        refine x_iconst 1 dL_law_332 (by decide) ?_
        refine x_iadd dL_law_333 ?_
        refine x_sldE (j := i + 1) dL_law_334 (nI_add i 1) (by omega) hLL ?_
        refine x_aload_n dL_law_335 rfl ?_
        refine x_iload_n dL_law_336 rfl ?_
        refine x_iconst 2 dL_law_337 (by decide) ?_
        refine x_iadd dL_law_338 ?_
        refine x_sldE (j := i + 2) dL_law_339 (nI_add i 2) (by omega) hLL ?_
        refine x_aload_n dL_law_340 rfl ?_
        refine x_iload_n dL_law_341 rfl ?_
        refine x_iconst 3 dL_law_342 (by decide) ?_
        refine x_iadd dL_law_343 ?_
        refine x_sldE (j := i + 3) dL_law_344 (nI_add i 3) (by omega) hLL ?_
        refine x_i2l dL_law_345 ?_
        refine x_bipush 32 dL_law_346 (by decide) ?_
        refine x_lshl dL_law_348 ?_
        refine x_aload_n dL_law_349 rfl ?_
        refine x_iload_n dL_law_350 rfl ?_
        refine x_iconst 4 dL_law_351 (by decide) ?_
        refine x_iadd dL_law_352 ?_
        refine x_sldE (j := i + 4) dL_law_353 (nI_add i 4) (by omega) hLL ?_
        refine x_i2l dL_law_354 ?_
        refine x_ldc2 q2046 dL_law_355 ?_
        refine x_land dL_law_358 ?_
        refine x_lor dL_law_359 ?_
        rw [ej]
        refine x_callV (as := [_, _, _]) okX5_set bX5 rfl rfl q1637 dL_law_360 (Nat.le_of_ble_eq_true rfl) rfl (Nat.le_of_ble_eq_true rfl) (by show _ ≤ 603072; omega) (by show _ ≤ 7262314; omega) (pX5_set_row hj h1 h3 h2 h4 (fun z => absurd ((show inB _ 0 (nI m - 1) = true by rw [e1]; exact inB_mI hq1 (by omega)).symm.trans z) (by decide)) (fun q2 hq2 e2 => ?_))
        intros
        obtain rfl := nJ (by omega) (by omega) e1 e2
        refine x_icmp_eq 1712 dL_law_363 (by decide) (fun _ => ?_) (fun c_ => absurd (rfl) c_)
        exact go_fin (kN := kN) hG ⟨hn, by omega, hLk, hP, hHs, hSi, shC_set hj h1 h2 h3 h4 h5 h7 hq1 hSh, hIm, fxA_rc hFx (Fx.row _ _ _)⟩ (by omega) (by omega)
      · refine x_aload_n dL_law_295 rfl ?_
        refine x_aload_n dL_law_296 rfl ?_
        refine x_iload_n dL_law_297 rfl ?_
        refine x_iconst 1 dL_law_298 (by decide) ?_
        refine x_iadd dL_law_299 ?_
        refine x_sldE (j := i + 1) dL_law_300 (nI_add i 1) (by omega) hLL ?_
        refine x_aload_n dL_law_301 rfl ?_
        refine x_iload_n dL_law_302 rfl ?_
        refine x_iconst 2 dL_law_303 (by decide) ?_
        refine x_iadd dL_law_304 ?_
        refine x_sldE (j := i + 2) dL_law_305 (nI_add i 2) (by omega) hLL ?_
        refine x_aload_n dL_law_306 rfl ?_
        refine x_iload_n dL_law_307 rfl ?_
        refine x_iconst 3 dL_law_308 (by decide) ?_
        refine x_iadd dL_law_309 ?_
        refine x_sldE (j := i + 3) dL_law_310 (nI_add i 3) (by omega) hLL ?_
        refine x_i2l dL_law_311 ?_
        refine x_bipush 32 dL_law_312 (by decide) ?_
        refine x_lshl dL_law_314 ?_
        refine x_aload_n dL_law_315 rfl ?_
        refine x_iload_n dL_law_316 rfl ?_
        refine x_iconst 4 dL_law_317 (by decide) ?_
        refine x_iadd dL_law_318 ?_
        refine x_sldE (j := i + 4) dL_law_319 (nI_add i 4) (by omega) hLL ?_
        refine x_i2l dL_law_320 ?_
        refine x_ldc2 q2046 dL_law_321 ?_
        refine x_land dL_law_324 ?_
        refine x_lor dL_law_325 ?_
        rw [ej]
        refine x_xV (as := [_, _, _]) oxX0_set bX0 rfl rfl q391 dL_law_326 (Nat.le_of_ble_eq_true rfl) rfl (Nat.le_of_ble_eq_true rfl) (by show _ ≤ 603072; omega) (by show _ ≤ 7262314; omega) (pX0_set_r hj h5 h1 h2 ((rc_at hj).trans (congrArg some h6)) (fun q hq e => absurd (by rw [e]; exact vp_in_nI hq (by omega)) hv2) (fun _ _ => ?_))
        intros
        refine x_aload_n dL_law_329 rfl ?_
        refine x_aload_n dL_law_330 rfl ?_
        refine x_iload_n dL_law_331 rfl ?_
        refine x_iconst 1 dL_law_332 (by decide) ?_
        refine x_iadd dL_law_333 ?_
        refine x_sldE (j := i + 1) dL_law_334 (nI_add i 1) (by omega) hLL ?_
        refine x_aload_n dL_law_335 rfl ?_
        refine x_iload_n dL_law_336 rfl ?_
        refine x_iconst 2 dL_law_337 (by decide) ?_
        refine x_iadd dL_law_338 ?_
        refine x_sldE (j := i + 2) dL_law_339 (nI_add i 2) (by omega) hLL ?_
        refine x_aload_n dL_law_340 rfl ?_
        refine x_iload_n dL_law_341 rfl ?_
        refine x_iconst 3 dL_law_342 (by decide) ?_
        refine x_iadd dL_law_343 ?_
        refine x_sldE (j := i + 3) dL_law_344 (nI_add i 3) (by omega) hLL ?_
        refine x_i2l dL_law_345 ?_
        refine x_bipush 32 dL_law_346 (by decide) ?_
        refine x_lshl dL_law_348 ?_
        refine x_aload_n dL_law_349 rfl ?_
        refine x_iload_n dL_law_350 rfl ?_
        refine x_iconst 4 dL_law_351 (by decide) ?_
        refine x_iadd dL_law_352 ?_
        refine x_sldE (j := i + 4) dL_law_353 (nI_add i 4) (by omega) hLL ?_
        refine x_i2l dL_law_354 ?_
        refine x_ldc2 q2046 dL_law_355 ?_
        refine x_land dL_law_358 ?_
        refine x_lor dL_law_359 ?_
        rw [ej]
        refine x_callV (as := [_, _, _]) okX5_set bX5 rfl rfl q1637 dL_law_360 (Nat.le_of_ble_eq_true rfl) rfl (Nat.le_of_ble_eq_true rfl) (by show _ ≤ 603072; omega) (by show _ ≤ 7262314; omega) (pX5_set_row hj h1 h3 h2 h4 (fun _ => ?_) (fun q hq e => absurd (by rw [e]; exact vp_in_nI hq (by omega)) hv2))
        intros
        refine x_icmp_eq 1712 dL_law_363 (by decide) (fun _ => ?_) (fun c_ => absurd (rfl) c_)
        exact go_fin (kN := kN) hG ⟨hn, by omega, hLk, hP, hHs, hSi, hSh, hIm, hFx⟩ (by omega) (by omega)
    · refine x_aload_n dL_law_295 rfl ?_
      refine x_aload_n dL_law_296 rfl ?_
      refine x_iload_n dL_law_297 rfl ?_
      refine x_iconst 1 dL_law_298 (by decide) ?_
      refine x_iadd dL_law_299 ?_
      refine x_sldE (j := i + 1) dL_law_300 (nI_add i 1) (by omega) hLL ?_
      refine x_aload_n dL_law_301 rfl ?_
      refine x_iload_n dL_law_302 rfl ?_
      refine x_iconst 2 dL_law_303 (by decide) ?_
      refine x_iadd dL_law_304 ?_
      refine x_sldE (j := i + 2) dL_law_305 (nI_add i 2) (by omega) hLL ?_
      refine x_aload_n dL_law_306 rfl ?_
      refine x_iload_n dL_law_307 rfl ?_
      refine x_iconst 3 dL_law_308 (by decide) ?_
      refine x_iadd dL_law_309 ?_
      refine x_sldE (j := i + 3) dL_law_310 (nI_add i 3) (by omega) hLL ?_
      refine x_i2l dL_law_311 ?_
      refine x_bipush 32 dL_law_312 (by decide) ?_
      refine x_lshl dL_law_314 ?_
      refine x_aload_n dL_law_315 rfl ?_
      refine x_iload_n dL_law_316 rfl ?_
      refine x_iconst 4 dL_law_317 (by decide) ?_
      refine x_iadd dL_law_318 ?_
      refine x_sldE (j := i + 4) dL_law_319 (nI_add i 4) (by omega) hLL ?_
      refine x_i2l dL_law_320 ?_
      refine x_ldc2 q2046 dL_law_321 ?_
      refine x_land dL_law_324 ?_
      refine x_lor dL_law_325 ?_
      rw [ej]
      refine x_xV (as := [_, _, _]) oxX0_set bX0 rfl rfl q391 dL_law_326 (Nat.le_of_ble_eq_true rfl) rfl (Nat.le_of_ble_eq_true rfl) (by show _ ≤ 603072; omega) (by show _ ≤ 7262314; omega) (pX0_set_l hj h3 (hLk x h1).1 ((lc_at (by omega)).trans (congrArg some (hLk x h1).2.2.2)) (fun _ => ?_))
      intros
      refine x_aload_n dL_law_329 rfl ?_
      refine x_aload_n dL_law_330 rfl ?_
      refine x_iload_n dL_law_331 rfl ?_
      refine x_iconst 1 dL_law_332 (by decide) ?_
      refine x_iadd dL_law_333 ?_
      refine x_sldE (j := i + 1) dL_law_334 (nI_add i 1) (by omega) hLL ?_
      refine x_aload_n dL_law_335 rfl ?_
      refine x_iload_n dL_law_336 rfl ?_
      refine x_iconst 2 dL_law_337 (by decide) ?_
      refine x_iadd dL_law_338 ?_
      refine x_sldE (j := i + 2) dL_law_339 (nI_add i 2) (by omega) hLL ?_
      refine x_aload_n dL_law_340 rfl ?_
      refine x_iload_n dL_law_341 rfl ?_
      refine x_iconst 3 dL_law_342 (by decide) ?_
      refine x_iadd dL_law_343 ?_
      refine x_sldE (j := i + 3) dL_law_344 (nI_add i 3) (by omega) hLL ?_
      refine x_i2l dL_law_345 ?_
      refine x_bipush 32 dL_law_346 (by decide) ?_
      refine x_lshl dL_law_348 ?_
      refine x_aload_n dL_law_349 rfl ?_
      refine x_iload_n dL_law_350 rfl ?_
      refine x_iconst 4 dL_law_351 (by decide) ?_
      refine x_iadd dL_law_352 ?_
      refine x_sldE (j := i + 4) dL_law_353 (nI_add i 4) (by omega) hLL ?_
      refine x_i2l dL_law_354 ?_
      refine x_ldc2 q2046 dL_law_355 ?_
      refine x_land dL_law_358 ?_
      refine x_lor dL_law_359 ?_
      rw [ej]
      refine x_callV (as := [_, _, _]) okX5_set bX5 rfl rfl q1637 dL_law_360 (Nat.le_of_ble_eq_true rfl) rfl (Nat.le_of_ble_eq_true rfl) (by show _ ≤ 603072; omega) (by show _ ≤ 7262314; omega) (pX5_set_look hj (by omega) h2 ?_)
      intros
      refine x_icmp_eq 1712 dL_law_363 (by decide) (fun _ => ?_) (fun c_ => absurd (rfl) c_)
      exact go_fin (kN := kN) hG ⟨hn, by omega, hLk, hP, hHs, hSi, hSh, hIm, hFx⟩ (by omega) (by omega)
  · refine x_aload_n dL_law_295 rfl ?_
    refine x_aload_n dL_law_296 rfl ?_
    refine x_iload_n dL_law_297 rfl ?_
    refine x_iconst 1 dL_law_298 (by decide) ?_
    refine x_iadd dL_law_299 ?_
    refine x_sldE (j := i + 1) dL_law_300 (nI_add i 1) (by omega) hLL ?_
    refine x_aload_n dL_law_301 rfl ?_
    refine x_iload_n dL_law_302 rfl ?_
    refine x_iconst 2 dL_law_303 (by decide) ?_
    refine x_iadd dL_law_304 ?_
    refine x_sldE (j := i + 2) dL_law_305 (nI_add i 2) (by omega) hLL ?_
    refine x_aload_n dL_law_306 rfl ?_
    refine x_iload_n dL_law_307 rfl ?_
    refine x_iconst 3 dL_law_308 (by decide) ?_
    refine x_iadd dL_law_309 ?_
    refine x_sldE (j := i + 3) dL_law_310 (nI_add i 3) (by omega) hLL ?_
    refine x_i2l dL_law_311 ?_
    refine x_bipush 32 dL_law_312 (by decide) ?_
    refine x_lshl dL_law_314 ?_
    refine x_aload_n dL_law_315 rfl ?_
    refine x_iload_n dL_law_316 rfl ?_
    refine x_iconst 4 dL_law_317 (by decide) ?_
    refine x_iadd dL_law_318 ?_
    refine x_sldE (j := i + 4) dL_law_319 (nI_add i 4) (by omega) hLL ?_
    refine x_i2l dL_law_320 ?_
    refine x_ldc2 q2046 dL_law_321 ?_
    refine x_land dL_law_324 ?_
    refine x_lor dL_law_325 ?_
    refine x_xV (as := [_, _, _]) oxX0_set bX0 rfl rfl q391 dL_law_326 (Nat.le_of_ble_eq_true rfl) rfl (Nat.le_of_ble_eq_true rfl) (by show _ ≤ 603072; omega) (by show _ ≤ 7262314; omega) (pX0_set_bad (Bool.not_eq_true _ |>.mp hb) (fun _ => ?_))
    intros
    refine x_aload_n dL_law_329 rfl ?_
    refine x_aload_n dL_law_330 rfl ?_
    refine x_iload_n dL_law_331 rfl ?_
    refine x_iconst 1 dL_law_332 (by decide) ?_
    refine x_iadd dL_law_333 ?_
    refine x_sldE (j := i + 1) dL_law_334 (nI_add i 1) (by omega) hLL ?_
    refine x_aload_n dL_law_335 rfl ?_
    refine x_iload_n dL_law_336 rfl ?_
    refine x_iconst 2 dL_law_337 (by decide) ?_
    refine x_iadd dL_law_338 ?_
    refine x_sldE (j := i + 2) dL_law_339 (nI_add i 2) (by omega) hLL ?_
    refine x_aload_n dL_law_340 rfl ?_
    refine x_iload_n dL_law_341 rfl ?_
    refine x_iconst 3 dL_law_342 (by decide) ?_
    refine x_iadd dL_law_343 ?_
    refine x_sldE (j := i + 3) dL_law_344 (nI_add i 3) (by omega) hLL ?_
    refine x_i2l dL_law_345 ?_
    refine x_bipush 32 dL_law_346 (by decide) ?_
    refine x_lshl dL_law_348 ?_
    refine x_aload_n dL_law_349 rfl ?_
    refine x_iload_n dL_law_350 rfl ?_
    refine x_iconst 4 dL_law_351 (by decide) ?_
    refine x_iadd dL_law_352 ?_
    refine x_sldE (j := i + 4) dL_law_353 (nI_add i 4) (by omega) hLL ?_
    refine x_i2l dL_law_354 ?_
    refine x_ldc2 q2046 dL_law_355 ?_
    refine x_land dL_law_358 ?_
    refine x_lor dL_law_359 ?_
    refine x_callV (as := [_, _, _]) okX5_set bX5 rfl rfl q1637 dL_law_360 (Nat.le_of_ble_eq_true rfl) rfl (Nat.le_of_ble_eq_true rfl) (by show _ ≤ 603072; omega) (by show _ ≤ 7262314; omega) (pX5_set_bad (Bool.not_eq_true _ |>.mp hb) ?_)
    intros
    refine x_icmp_eq 1712 dL_law_363 (by decide) (fun _ => ?_) (fun c_ => absurd (rfl) c_)
    exact go_fin (kN := kN) hG ⟨hn, by omega, hLk, hP, hHs, hSi, hSh, hIm, hFx⟩ (by omega) (by omega)
