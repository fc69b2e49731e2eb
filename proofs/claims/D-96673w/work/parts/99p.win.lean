set_option maxRecDepth 100000
/-! the reader: read; the component: window -/
theorem pX13_init {Q : Option Value → AHp → Prop} {r0 x1 h2 L : List AC} {td : Int32} (hQ : Q none (r0, x1, h2, .inr (13, [.ref 233, .int td, .ref 11, .int 0, .int 0, .null, .int 0]) :: L)) : AMet mX13_init 1 0 0 [.ref 3, .ref 233, .int td, .ref 11] (r0, x1, h2, .inr (13, [.null, .int 0, .null, .int 0, .int 0, .null, .int 0]) :: L) Q := by
  refine AMet.ofRch rfl rfl (Nat.le_of_ble_eq_true rfl) ?_
  refine r_aload_n dX13_init_0 rfl ?_
  refine r_objInit q1009 dX13_init_1 (Nat.le_of_ble_eq_true rfl) ?_
  refine r_aload_n dX13_init_4 rfl ?_
  refine r_aload_n dX13_init_5 rfl ?_
  refine r_putF bX13 0 (by decide) rfl rfl rfl q1010 dX13_init_6 rfl rfl rfl (Nat.le_of_ble_eq_true rfl) ?_
  refine r_aload_n dX13_init_9 rfl ?_
  refine r_iload_n dX13_init_10 rfl ?_
  refine r_putF bX13 1 (by decide) rfl rfl rfl q1011 dX13_init_11 rfl rfl rfl (Nat.le_of_ble_eq_true rfl) ?_
  refine r_aload_n dX13_init_14 rfl ?_
  refine r_aload_n dX13_init_15 rfl ?_
  refine r_putF bX13 2 (by decide) rfl rfl rfl q1012 dX13_init_16 rfl rfl rfl (Nat.le_of_ble_eq_true rfl) ?_
  exact r_vret dX13_init_19 rfl (Nat.le_of_ble_eq_true rfl) (Nat.le_of_ble_eq_true rfl) (hQ)
/-- what comes when m statements are read and the next token is the one from place a on -/
def rsF (tp : Nat → Int32) (t q : Nat) (w : WdT) (a m : Nat) : Nat ⊕ (WdT × Nat) := if (nxF tp t a 0).2.2.1 = 101 then .inr (w, m) else if (nxF tp t a 0).2.2.1 = 59 then rdF tp t q w (nxF tp t a 0).2.1 m else .inl (nxF tp t a 0).1
/-- what reading must lead to -/
def RdQ (Q : OC → AHp → Prop) (r0 x1 h2 : List AC) (lc : Nat → AC) (n0 : Nat) (nl0 : Nat → Option Nat) (t : Nat) (ev se : Int32) (R : Nat ⊕ (WdT × Nat)) : Prop :=
  (∀ p, R = .inl p → FaQ Q r0 x1 h2 p) ∧ (∀ th kd ow ag lk co sh hs n m nl E a fr wd nu, R = .inr ((th, kd, ow, ag, lk, co, sh, hs, n), m) → n0 ≤ n → n ≤ 8 → m ≤ 64 → LkE lc E nl kd ow n → (∀ i, i < n0 → nl i = nl0 i) → Q (.inl (some (.int (nI m)))) (r0, x1, h2, rdC t a fr wd nu :: (wD 1 0 th nl ag lk co sh hs (nI n) ev se ++ E)))
theorem rd_end {Q : OC → AHp → Prop} {r0 x1 h2 E : List AC} {t : Nat} {tp : Nat → Int32} {n : Nat} {ev se : Int32} {th kd ow : Nat → Int32} {nl : Nat → Option Nat} {ag lk co sh hs : Nat → Int32} {lc : Nat → AC} {a a' : Nat} {wd : Value} {nu : Int32} {m : Nat} (ha : a ≤ t) (hm : m ≤ 64) (g1 : (nxF tp t a 0).2.2.1 = 101) (hq : Q (.inl (some (.int (nI m)))) (r0, x1, h2, rdC t a' (nI (nxF tp t a 0).1) wd nu :: (wD 1 0 th nl ag lk co sh hs (nI n) ev se ++ E))) : Rch (mX13_read, 11, 2470, 75465, Q) (38 * m) (1161 * m) 10 [some (.ref 3), some (.int (nI m))] [] (r0, x1, h2, rdC t a' (nI (nxF tp t a 0).1) wd nu :: (wD 1 0 th nl ag lk co sh hs (nI n) ev se ++ E)) := by
  have hle := nx_le (tp := tp) (va := 0) ha
  have e1 : (nxF tp t a 0).1 = t := by
    rcases hle.2.2.2 with z | z
    · exact z.2
    · exact absurd g1 z.1
  have c1 : 38 * m ≤ 2470 := by omega
  have c2 : 1161 * m ≤ 75465 := by omega
  refine r_aload_n dX13_read_10 rfl ?_
  refine r_get bX13 4 (by decide) q1015 dX13_read_11 rfl rfl ?_
  refine r_aload_n dX13_read_14 rfl ?_
  refine r_get bX13 1 (by decide) q1011 dX13_read_15 rfl rfl ?_
  refine r_icmp_ge 45 dX13_read_18 (by decide) (fun _ => ?_) (fun c_ => absurd (by rw [e1]; exact geT _) c_)
  refine r_iload_n dX13_read_45 rfl ?_
  exact r_iret dX13_read_46 rfl c1 c2 (hq)
theorem rd_bad {Q : OC → AHp → Prop} {r0 x1 h2 E : List AC} {t : Nat} {tp : Nat → Int32} {n : Nat} {ev se : Int32} {th kd ow : Nat → Int32} {nl : Nat → Option Nat} {ag lk co sh hs : Nat → Int32} {lc : Nat → AC} {a a' : Nat} {wd : Value} {nu : Int32} {m : Nat} (hT : x1[29]? = some (.inl (.int, 250, .inl tp))) (ht : t ≤ 64) (ha : a ≤ t) (hm : m ≤ 64) (hk : TkV tp t a 9 E a' wd nu) (g1 : ¬ (nxF tp t a 0).2.2.1 = 101) (g2 : ¬ (nxF tp t a 0).2.2.1 = 59) (hx : FaQ Q r0 x1 h2 (nxF tp t a 0).1) : Rch (mX13_read, 11, 2470, 75465, Q) (38 * m) (1161 * m) 10 [some (.ref 3), some (.int (nI m))] [] (r0, x1, h2, rdC t a' (nI (nxF tp t a 0).1) wd nu :: (wD 1 0 th nl ag lk co sh hs (nI n) ev se ++ E)) := by
  have hle := nx_le (tp := tp) (va := 0) ha
  have e1 : (nxF tp t a 0).1 < (nxF tp t a 0).2.1 := by
    rcases hle.2.2.2 with z | z
    · exact absurd z.1 g1
    · exact z.2
  have c1 : 38 * m + 6 ≤ 2470 := by omega
  have c2 : 1161 * m + 192 ≤ 75465 := by omega
  have c3 : 38 * m + 6 + 1 ≤ 2470 := by omega
  have c4 : 1161 * m + 192 + 7 ≤ 75465 := by omega
  refine r_aload_n dX13_read_10 rfl ?_
  refine r_get bX13 4 (by decide) q1015 dX13_read_11 rfl rfl ?_
  refine r_aload_n dX13_read_14 rfl ?_
  refine r_get bX13 1 (by decide) q1011 dX13_read_15 rfl rfl ?_
  refine r_icmp_ge 45 dX13_read_18 (by decide) (fun c_ => absurd c_ (geF (by omega) (by omega))) (fun _ => ?_)
  refine r_aload_n dX13_read_21 rfl ?_
  refine r_ldcS 1 [true, true, false, false, false, true, false, true, false, false] rfl rfl q1071 dX13_read_22 ?_
  refine r_callV (as := [_]) okX13_takes bX13 rfl rfl q1179 dX13_read_24 (Nat.le_of_ble_eq_true rfl) rfl (Nat.le_of_ble_eq_true rfl) c1 c2 (pX13_takes (P := wD 1 0 th nl ag lk co sh hs (nI n) ev se) hT ht ha hk (fun _ => ?_) (fun E1 a1 w1 n1 z y1 k1 => absurd z g2))
  refine r_if_ne 35 dX13_read_27 (by decide) (fun c_ => absurd (rfl) c_) (fun _ => ?_)
  refine r_aload_n dX13_read_30 rfl ?_
  refine r_callV (as := []) okX13_wrong bX13 rfl rfl q1076 dX13_read_31 (Nat.le_of_ble_eq_true rfl) rfl (Nat.le_of_ble_eq_true rfl) c3 c4 (pX13_wrong (fun g0 g1 g2 g3 g4 g5 => ?_))
  refine r_athrow dX13_read_34 bX14 (dynG (k := (rdC t a' (nI (nxF tp t a 0).1) wd nu :: (wD 1 0 th nl ag lk co sh hs (nI n) ev se ++ E)).length) rfl (i := 0) rfl) ?_
  exact rt_leave rfl c3 c4 (hx _ g0 g1 g2 g3 g4 g5)
theorem rd_more {Q : OC → AHp → Prop} {r0 x1 h2 E : List AC} {t : Nat} {tp : Nat → Int32} {n : Nat} {ev se : Int32} {th kd ow : Nat → Int32} {nl : Nat → Option Nat} {ag lk co sh hs : Nat → Int32} {lc : Nat → AC} {a a' : Nat} {wd : Value} {nu : Int32} {m : Nat} (hT : x1[29]? = some (.inl (.int, 250, .inl tp))) (ht : t ≤ 64) (ha : a ≤ t) (hm : m < 65) (hn2 : n ≤ 8) (hL : LkE lc E nl kd ow n) (hk : TkV tp t a 9 E a' wd nu) (g1 : ¬ (nxF tp t a 0).2.2.1 = 101) (g2 : (nxF tp t a 0).2.2.1 = 59) (hx : ∀ p, stF tp t (th, kd, ow, ag, lk, co, sh, hs, n) (nxF tp t (nxF tp t a 0).2.1 0).1 (nxF tp t (nxF tp t a 0).2.1 0).2.1 (nxF tp t (nxF tp t a 0).2.1 0).2.2.1 = .inl p → FaQ Q r0 x1 h2 p) (hq : ∀ th2 kd2 ow2 ag2 lk2 co2 sh2 hs2 n2 b2 nl2 E2 a2 w2 nu2, stF tp t (th, kd, ow, ag, lk, co, sh, hs, n) (nxF tp t (nxF tp t a 0).2.1 0).1 (nxF tp t (nxF tp t a 0).2.1 0).2.1 (nxF tp t (nxF tp t a 0).2.1 0).2.2.1 = .inr ((th2, kd2, ow2, ag2, lk2, co2, sh2, hs2, n2), b2) → LkE lc E2 nl2 kd2 ow2 n2 → (∀ i, i < n → nl2 i = nl i) → TkV tp t b2 9 E2 a2 w2 nu2 → Rch (mX13_read, 11, 2470, 75465, Q) (38 * m + 6 + 32) (1161 * m + 192 + 969) 10 [some (.ref 3), some (.int (nI (m + 1)))] [] (r0, x1, h2, rdC t a2 (nI (nxF tp t b2 0).1) w2 nu2 :: (wD 1 0 th2 nl2 ag2 lk2 co2 sh2 hs2 (nI n2) ev se ++ E2))) : Rch (mX13_read, 11, 2470, 75465, Q) (38 * m) (1161 * m) 10 [some (.ref 3), some (.int (nI m))] [] (r0, x1, h2, rdC t a' (nI (nxF tp t a 0).1) wd nu :: (wD 1 0 th nl ag lk co sh hs (nI n) ev se ++ E)) := by
  have hle := nx_le (tp := tp) (va := 0) ha
  have e1 : (nxF tp t a 0).1 < (nxF tp t a 0).2.1 := by
    rcases hle.2.2.2 with z | z
    · exact absurd z.1 g1
    · exact z.2
  have c1 : 38 * m + 6 ≤ 2470 := by omega
  have c2 : 1161 * m + 192 ≤ 75465 := by omega
  have c3 : 38 * m + 6 + 32 ≤ 2470 := by omega
  have c4 : 1161 * m + 192 + 969 ≤ 75465 := by omega
  refine r_aload_n dX13_read_10 rfl ?_
  refine r_get bX13 4 (by decide) q1015 dX13_read_11 rfl rfl ?_
  refine r_aload_n dX13_read_14 rfl ?_
  refine r_get bX13 1 (by decide) q1011 dX13_read_15 rfl rfl ?_
  refine r_icmp_ge 45 dX13_read_18 (by decide) (fun c_ => absurd c_ (geF (by omega) (by omega))) (fun _ => ?_)
  refine r_aload_n dX13_read_21 rfl ?_
  refine r_ldcS 1 [true, true, false, false, false, true, false, true, false, false] rfl rfl q1071 dX13_read_22 ?_
  refine r_callV (as := [_]) okX13_takes bX13 rfl rfl q1179 dX13_read_24 (Nat.le_of_ble_eq_true rfl) rfl (Nat.le_of_ble_eq_true rfl) c1 c2 (pX13_takes (P := wD 1 0 th nl ag lk co sh hs (nI n) ev se) hT ht ha hk (fun z => absurd g2 z) (fun E1 a1 w1 n1 _ y1 k1 => ?_))
  refine r_if_ne 35 dX13_read_27 (by decide) (fun _ => ?_) (fun c_ => absurd c_ (by decide))
  refine r_aload_n dX13_read_35 rfl ?_
  refine r_xV (as := []) oxX13_item bX13 rfl rfl q1072 dX13_read_36 (Nat.le_of_ble_eq_true rfl) rfl (Nat.le_of_ble_eq_true rfl) c3 c4 (pX13_item (lc := lc) (kd := kd) (ow := ow) hT ht hle.2.2.1 k1 hn2 (hL.ext y1) (fun p hp D g0 g1 g2 g3 g4 g5 => rt_leave rfl c3 c4 (hx p hp D g0 g1 g2 g3 g4 g5)) (fun th2 kd2 ow2 ag2 lk2 co2 sh2 hs2 n2 b2 nl2 E2 a2 w2 nu2 hst hL2 hnl2 k2 => ?_))
  refine r_iincV dX13_read_39 rfl (Nat.le_of_ble_eq_true rfl) (incN _) ?_
  refine r_goto 10 dX13_read_42 (by decide) ?_
  exact hq th2 kd2 ow2 ag2 lk2 co2 sh2 hs2 n2 b2 nl2 E2 a2 w2 nu2 hst hL2 hnl2 k2
theorem rd_key {Q : OC → AHp → Prop} {r0 x1 h2 : List AC} {t : Nat} {tp : Nat → Int32} {ev se : Int32} {lc : Nat → AC} {n0 : Nat} {nl0 : Nat → Option Nat} (hT : x1[29]? = some (.inl (.int, 250, .inl tp))) (ht : t ≤ 64) : ∀ (q : Nat) (th kd ow ag lk co sh hs : Nat → Int32) (n : Nat) (nl : Nat → Option Nat) (E : List AC) (a a' : Nat) (wd : Value) (nu : Int32) (m : Nat), t < q + a → a ≤ t → m ≤ a → n0 ≤ n → n ≤ 8 → LkE lc E nl kd ow n → (∀ i, i < n0 → nl i = nl0 i) → TkV tp t a 9 E a' wd nu → RdQ Q r0 x1 h2 lc n0 nl0 t ev se (rsF tp t q (th, kd, ow, ag, lk, co, sh, hs, n) a m) → Rch (mX13_read, 11, 2470, 75465, Q) (38 * m) (1161 * m) 10 [some (.ref 3), some (.int (nI m))] [] (r0, x1, h2, rdC t a' (nI (nxF tp t a 0).1) wd nu :: (wD 1 0 th nl ag lk co sh hs (nI n) ev se ++ E))
  | 0, th, kd, ow, ag, lk, co, sh, hs, n, nl, E, a, a', wd, nu, m, h1, h3, _, _, _, _, _, _, _ => absurd h3 (by omega)
  | q + 1, th, kd, ow, ag, lk, co, sh, hs, n, nl, E, a, a', wd, nu, m, hq, ha, hm, hn1, hn2, hL, hnl, hk, hR => by
    by_cases g1 : (nxF tp t a 0).2.2.1 = 101
    · exact rd_end (lc := lc) (kd := kd) (ow := ow) ha (by omega) g1 (hR.2 th kd ow ag lk co sh hs n m nl E a' (nI (nxF tp t a 0).1) wd nu (by unfold rsF; rw [if_pos g1]) hn1 hn2 (by omega) hL hnl)
    · by_cases g2 : (nxF tp t a 0).2.2.1 = 59
      · have er : rsF tp t (q + 1) (th, kd, ow, ag, lk, co, sh, hs, n) a m = rdF tp t (q + 1) (th, kd, ow, ag, lk, co, sh, hs, n) (nxF tp t a 0).2.1 m := by unfold rsF; rw [if_neg g1, if_pos g2]
        rw [er] at hR
        have hle := nx_le (tp := tp) (va := 0) ha
        refine rd_more (lc := lc) (kd := kd) (ow := ow) hT ht ha (by omega) hn2 hL hk g1 g2 (fun p hp => hR.1 p (by rw [rdF_s, hp])) (fun th2 kd2 ow2 ag2 lk2 co2 sh2 hs2 n2 b2 nl2 E2 a2 w2 nu2 hst hL2 hnl2 k2 => ?_)
        have hle2 := nx_le (tp := tp) (va := 0) hle.2.2.1
        obtain ⟨s1, s2, s3, s4⟩ := st_ok hn2 hle2.2.2.1 hst
        have er2 : rdF tp t (q + 1) (th, kd, ow, ag, lk, co, sh, hs, n) (nxF tp t a 0).2.1 m = rsF tp t q (th2, kd2, ow2, ag2, lk2, co2, sh2, hs2, n2) b2 (m + 1) := by rw [rdF_s, hst]; rfl
        rw [er2] at hR
        have e1 : (nxF tp t a 0).1 < (nxF tp t a 0).2.1 := by
          rcases hle.2.2.2 with z | z
          · exact absurd z.1 g1
          · exact z.2
        rw [show 38 * m + 6 + 32 = 38 * (m + 1) by omega, show 1161 * m + 192 + 969 = 1161 * (m + 1) by omega]
        exact rd_key hT ht q _ _ _ _ _ _ _ _ _ _ _ _ _ _ _ _ (by omega) s4 (by omega) (by omega) s2 hL2 (fun i hi => (hnl2 i (by omega)).trans (hnl i hi)) k2 hR
      · exact rd_bad (lc := lc) (kd := kd) (ow := ow) hT ht ha (by omega) hk g1 g2 (hR.1 (nxF tp t a 0).1 (by unfold rsF; rw [if_neg g1, if_neg g2]))
theorem pX13_read {Q : OC → AHp → Prop} {r0 x1 h2 E : List AC} {t : Nat} {tp : Nat → Int32} {n : Nat} {ev se : Int32} {th kd ow : Nat → Int32} {nl : Nat → Option Nat} {ag lk co sh hs : Nat → Int32} {lc : Nat → AC} (hT : x1[29]? = some (.inl (.int, 250, .inl tp))) (ht : t ≤ 64) (hn : n ≤ 8) (hL : LkE lc E nl kd ow n) (hR : RdQ Q r0 x1 h2 lc n nl t ev se (rdF tp t (t + 1) (th, kd, ow, ag, lk, co, sh, hs, n) 0 0)) : AMetX mX13_read 11 2470 75465 [.ref 3] (r0, x1, h2, rdC t 0 0 .null 0 :: (wD 1 0 th nl ag lk co sh hs (nI n) ev se ++ E)) Q := by
  refine AMetX.ofRch rfl (Nat.le_of_ble_eq_true rfl) ?_
  refine r_iconst 1 dX13_read_0 (by decide) ?_
  refine r_istore_n dX13_read_1 (Nat.le_of_ble_eq_true rfl) ?_
  refine r_aload_n dX13_read_2 rfl ?_
  refine r_callV (as := []) okX13_next bX13 rfl rfl q1037 dX13_read_3 (Nat.le_of_ble_eq_true rfl) rfl (Nat.le_of_ble_eq_true rfl) (Nat.le_of_ble_eq_true rfl) (Nat.le_of_ble_eq_true rfl) (pX13_next (P := wD 1 0 th nl ag lk co sh hs (nI n) ev se) (a := 0) hT ht (by omega) (fun E1 a1 w1 n1 y1 k1 => ?_))
  refine r_aload_n dX13_read_6 rfl ?_
  refine r_xV (as := []) oxX13_item bX13 rfl rfl q1072 dX13_read_7 (Nat.le_of_ble_eq_true rfl) rfl (Nat.le_of_ble_eq_true rfl) (Nat.le_of_ble_eq_true rfl) (Nat.le_of_ble_eq_true rfl) (pX13_item (lc := lc) (kd := kd) (ow := ow) hT ht (by omega) k1 hn (hL.ext y1) (fun p hp D g0 g1 g2 g3 g4 g5 => rt_leave rfl (Nat.le_of_ble_eq_true rfl) (Nat.le_of_ble_eq_true rfl) (hR.1 p (by rw [rdF_s, hp]) D g0 g1 g2 g3 g4 g5)) (fun th2 kd2 ow2 ag2 lk2 co2 sh2 hs2 n2 b2 nl2 E2 a2 w2 nu2 hst hL2 hnl2 k2 => ?_))
  have hle2 := nx_le (tp := tp) (t := t) (a := 0) (va := 0) (by omega)
  obtain ⟨s1, s2, s3, s4⟩ := st_ok hn hle2.2.2.1 hst
  refine rd_key (lc := lc) hT ht t _ kd2 ow2 _ _ _ _ _ _ _ _ _ _ _ _ 1 (by omega) s4 (by omega) s1 s2 hL2 hnl2 k2 ?_
  have er2 : rdF tp t (t + 1) (th, kd, ow, ag, lk, co, sh, hs, n) 0 0 = rsF tp t t (th2, kd2, ow2, ag2, lk2, co2, sh2, hs2, n2) b2 1 := by rw [rdF_s, hst]; rfl
  rw [er2] at hR
  exact hR
