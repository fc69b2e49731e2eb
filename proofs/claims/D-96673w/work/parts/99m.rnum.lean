set_option maxRecDepth 100000
/-! the reader: wrong, number, sort, looker, takes -/
/-- a fault at place p is thrown -/
def FaQ (Q : OC → AHp → Prop) (r0 x1 h2 : List AC) (p : Nat) : Prop := ∀ (D : List AC) (g0 g1 g2 g3 g4 g5 : Value), Q (.inr (8 * D.length + 3, "SeenInOrderOfAge$Fault")) (r0, x1, h2, D ++ [.inr (14, [g0, g1, g2, g3, g4, g5, .int (nI p)])])
theorem pX13_wrong {Q : Option Value → AHp → Prop} {r0 x1 h2 W : List AC} {t a : Nat} {fr nu : Int32} {wd : Value} (hQ : ∀ g0 g1 g2 g3 g4 g5, Q (some (.ref (8 * (rdC t a fr wd nu :: W).length + 3))) (r0, x1, h2, (rdC t a fr wd nu :: W) ++ [.inr (14, [g0, g1, g2, g3, g4, g5, .int fr])])) : AMet mX13_wrong 5 1 7 [.ref 3] (r0, x1, h2, rdC t a fr wd nu :: W) Q := by
  refine AMet.ofRch rfl rfl (Nat.le_of_ble_eq_true rfl) ?_
  refine r_new bX14 [.null, .null, .null, .null, .null, .int 0, .int 0] (by decide) (fun _ => rfl) q1080 q1081 q118 dX13_wrong_0 (Nat.le_of_ble_eq_true rfl) (Nat.le_of_ble_eq_true rfl) ?_
  show Rch _ _ _ _ _ (.ref (8 * ((rdC t a fr wd nu :: W).length + 0) + 3) :: _) (r0, x1, h2, (rdC t a fr wd nu :: W) ++ [.inr (14, [.null, .null, .null, .null, .null, .int 0, .int 0])])
  refine r_dup dX13_wrong_3 rfl ?_
  refine r_aload_n dX13_wrong_4 rfl ?_
  refine r_get bX13 4 (by decide) q1015 dX13_wrong_5 rfl rfl ?_
  refine r_callI (as := [_]) okX14_init q1089 dX13_wrong_8 (Nat.le_of_ble_eq_true rfl) rfl (Nat.le_of_ble_eq_true rfl) (Nat.le_of_ble_eq_true rfl) (Nat.le_of_ble_eq_true rfl) (pX14_init (dynG (k := (rdC t a fr wd nu :: W).length) rfl (i := 0) rfl) (fun g0 g1 g2 g3 g4 g5 => ?_))
  rw [dynS (k := (rdC t a fr wd nu :: W).length) rfl (i := 0)]
  exact r_aret dX13_wrong_11 rfl (by first | exact Or.inl ⟨_, rfl⟩ | exact Or.inr ⟨_, rfl⟩) (Nat.le_of_ble_eq_true rfl) (Nat.le_of_ble_eq_true rfl) (hQ g0 g1 g2 g3 g4 g5)
section RM
variable {Q : OC → AHp → Prop} {r0 x1 h2 P E : List AC} {t a a' : Nat} {nu : Int32} {wd : Value} {tp : Nat → Int32}
theorem pX13_number {m : Nat} {y : Int32} (hy : y = nI m - 1) (hm : m ≤ 100) (hT : x1[29]? = some (.inl (.int, 250, .inl tp))) (ht : t ≤ 64) (ha : a ≤ t) (hk : TkV tp t a P.length E a' wd nu) (hX : nmF tp t a m = none → FaQ Q r0 x1 h2 (nxF tp t a 0).1) (hQ : ∀ j e E' a'' wd' nu', nmF tp t a m = some (j, e) → j < m → a < e → e ≤ t → Ext E E' → TkV tp t e P.length E' a'' wd' nu' → Q (.inl (some (.int (nI j)))) (r0, x1, h2, rdC t a'' (nI (nxF tp t e 0).1) wd' nu' :: (P ++ E'))) : AMetX mX13_number 8 6 192 [.ref 3, .int 0, .int y] (r0, x1, h2, rdC t a' (nI (nxF tp t a 0).1) wd nu :: (P ++ E)) Q := by
  refine AMetX.ofRch rfl (Nat.le_of_ble_eq_true rfl) ?_
  have ey : y.toInt = (m : Int) - 1 := by
    rw [hy]
    exact pk_sub_toInt (a := m) (b := 1) (by omega) (by omega)
  cases hn : nmF tp t a m with
  | some je =>
    obtain ⟨j, e⟩ := je
    obtain ⟨g1, g2, g3, g4, g5, g6⟩ := nm_some (by omega) ha hn
    have hh : a' = e ∧ nu = nI j := by
      unfold TkV at hk
      rw [g1, g2, g4] at hk
      rcases hk with z | z | z | z | z
      · exact absurd z.1 (by decide)
      · exact ⟨z.2.1, z.2.2.2⟩
      · exact absurd z.1 (by decide)
      · exact absurd z.1 (by decide)
      · exact absurd z.1 (by decide)
    obtain ⟨rfl, rfl⟩ := hh
    have h1 : nI j ≤ y := by
      rw [Int32.le_iff_toInt_le, ey, nI_toInt (by omega)]
      omega
    refine r_aload_n dX13_number_0 rfl ?_
    refine r_get bX13 6 (by decide) q1017 dX13_number_1 rfl rfl ?_
    refine r_iload_n dX13_number_4 rfl ?_
    refine r_icmp_lt 16 dX13_number_5 (by decide) (fun c_ => absurd c_ (nI_pos (by omega))) (fun _ => ?_)
    refine r_aload_n dX13_number_8 rfl ?_
    refine r_get bX13 6 (by decide) q1017 dX13_number_9 rfl rfl ?_
    refine r_iload_n dX13_number_12 rfl ?_
    refine r_icmp_le 21 dX13_number_13 (by decide) (fun _ => ?_) (fun c_ => absurd (h1) c_)
    refine r_aload_n dX13_number_21 rfl ?_
    refine r_get bX13 6 (by decide) q1017 dX13_number_22 rfl rfl ?_
    refine r_istore_n dX13_number_25 (Nat.le_of_ble_eq_true rfl) ?_
    refine r_aload_n dX13_number_26 rfl ?_
    refine r_callV (as := []) okX13_next bX13 rfl rfl q1037 dX13_number_27 (Nat.le_of_ble_eq_true rfl) rfl (Nat.le_of_ble_eq_true rfl) (Nat.le_of_ble_eq_true rfl) (Nat.le_of_ble_eq_true rfl) (pX13_next hT ht g6 (fun E1 a1 w1 n1 xx k1 => ?_))
    refine r_iload_n dX13_number_30 rfl ?_
    exact r_iret dX13_number_31 rfl (Nat.le_of_ble_eq_true rfl) (Nat.le_of_ble_eq_true rfl) (hQ _ _ _ _ _ _ hn g3 g5 g6 xx k1)
  | none =>
    have hx := hX hn
    have hb : nu < 0 ∨ ¬ nu < 0 ∧ ¬ nu ≤ y := by
      have hm1 : nu = -1 → nu < 0 ∨ ¬ nu < 0 ∧ ¬ nu ≤ y := fun z => Or.inl (by rw [z]; decide)
      unfold TkV at hk
      rcases hk with z | z | z | z | z
      · exact hm1 z.2.2
      · by_cases c1 : nu < 0
        · exact Or.inl c1
        · refine Or.inr ⟨c1, fun c2 => ?_⟩
          unfold nmF at hn
          rw [← hy, if_pos ⟨z.1, by rw [← z.2.2.2]; unfold inB; simp [Int32.not_lt.mp c1, c2]⟩] at hn
          cases hn
      · exact hm1 z.2.2.2
      · rcases z.2.2 with c | c
        · exact hm1 c
        · refine Or.inr ⟨by rw [c]; decide, fun c2 => ?_⟩
          rw [c, Int32.le_iff_toInt_le, ey, show (100 : Int32).toInt = 100 by decide] at c2
          omega
      · exact hm1 z.2.2.1
    rcases hb with c | ⟨c, d⟩
    · refine r_aload_n dX13_number_0 rfl ?_
      refine r_get bX13 6 (by decide) q1017 dX13_number_1 rfl rfl ?_
      refine r_iload_n dX13_number_4 rfl ?_
      refine r_icmp_lt 16 dX13_number_5 (by decide) (fun _ => ?_) (fun c_ => absurd (c) c_)
      refine r_aload_n dX13_number_16 rfl ?_
      refine r_callV (as := []) okX13_wrong bX13 rfl rfl q1076 dX13_number_17 (Nat.le_of_ble_eq_true rfl) rfl (Nat.le_of_ble_eq_true rfl) (Nat.le_of_ble_eq_true rfl) (Nat.le_of_ble_eq_true rfl) (pX13_wrong (fun g0 g1 g2 g3 g4 g5 => ?_))
      refine r_athrow dX13_number_20 bX14 (dynG (k := (rdC t a' (nI (nxF tp t a 0).1) wd nu :: (P ++ E)).length) rfl (i := 0) rfl) ?_
      exact rt_leave rfl (Nat.le_of_ble_eq_true rfl) (Nat.le_of_ble_eq_true rfl) (hx _ g0 g1 g2 g3 g4 g5)
    · refine r_aload_n dX13_number_0 rfl ?_
      refine r_get bX13 6 (by decide) q1017 dX13_number_1 rfl rfl ?_
      refine r_iload_n dX13_number_4 rfl ?_
      refine r_icmp_lt 16 dX13_number_5 (by decide) (fun c_ => absurd c_ (c)) (fun _ => ?_)
      refine r_aload_n dX13_number_8 rfl ?_
      refine r_get bX13 6 (by decide) q1017 dX13_number_9 rfl rfl ?_
      refine r_iload_n dX13_number_12 rfl ?_
      refine r_icmp_le 21 dX13_number_13 (by decide) (fun c_ => absurd c_ (d)) (fun _ => ?_)
      refine r_aload_n dX13_number_16 rfl ?_
      refine r_callV (as := []) okX13_wrong bX13 rfl rfl q1076 dX13_number_17 (Nat.le_of_ble_eq_true rfl) rfl (Nat.le_of_ble_eq_true rfl) (Nat.le_of_ble_eq_true rfl) (Nat.le_of_ble_eq_true rfl) (pX13_wrong (fun g0 g1 g2 g3 g4 g5 => ?_))
      refine r_athrow dX13_number_20 bX14 (dynG (k := (rdC t a' (nI (nxF tp t a 0).1) wd nu :: (P ++ E)).length) rfl (i := 0) rfl) ?_
      exact rt_leave rfl (Nat.le_of_ble_eq_true rfl) (Nat.le_of_ble_eq_true rfl) (hx _ g0 g1 g2 g3 g4 g5)
theorem pX13_sort (hT : x1[29]? = some (.inl (.int, 250, .inl tp))) (ht : t ≤ 64) (ha : a ≤ t) (hk : TkV tp t a P.length E a' wd nu) (hX : nmF tp t a 8 = none → FaQ Q r0 x1 h2 (nxF tp t a 0).1) (hQ : ∀ j e E' a'' wd' nu', nmF tp t a 8 = some (j, e) → j < 8 → a < e → e ≤ t → Ext E E' → TkV tp t e P.length E' a'' wd' nu' → Q (.inl (some (.int (nI j)))) (r0, x1, h2, rdC t a'' (nI (nxF tp t e 0).1) wd' nu' :: (P ++ E'))) : AMetX mX13_sort 9 6 192 [.ref 3] (r0, x1, h2, rdC t a' (nI (nxF tp t a 0).1) wd nu :: (P ++ E)) Q := by
  refine AMetX.ofRch rfl (Nat.le_of_ble_eq_true rfl) ?_
  refine r_aload_n dX13_sort_0 rfl ?_
  refine r_iconst 0 dX13_sort_1 (by decide) ?_
  refine r_bipush 7 dX13_sort_2 (by decide) ?_
  refine r_xV (as := [_, _]) oxX13_number bX13 rfl rfl q1166 dX13_sort_4 (Nat.le_of_ble_eq_true rfl) rfl (Nat.le_of_ble_eq_true rfl) (Nat.le_of_ble_eq_true rfl) (Nat.le_of_ble_eq_true rfl) (pX13_number (m := 8) (by decide) (by omega) hT ht ha hk (fun hn D g0 g1 g2 g3 g4 g5 => ?_) (fun j e E1 a1 w1 n1 c1 c2 c3 c4 xx c5 => ?_))
  · exact rt_leave rfl (Nat.le_of_ble_eq_true rfl) (Nat.le_of_ble_eq_true rfl) (hX hn D g0 g1 g2 g3 g4 g5)
  · exact r_iret dX13_sort_7 rfl (Nat.le_of_ble_eq_true rfl) (Nat.le_of_ble_eq_true rfl) (hQ _ _ _ _ _ _ c1 c2 c3 c4 xx c5)
theorem pX13_looker {fr : Int32} {n : Nat} {pf ev se : Int32} {th : Nat → Int32} {nl : Nat → Option Nat} {ag lk co sh hs : Nat → Int32} (hn : n ≤ 8) (hT : x1[29]? = some (.inl (.int, 250, .inl tp))) (ht : t ≤ 64) (ha : a ≤ t) (hX : nmF tp t a n = none → FaQ Q r0 x1 h2 (nxF tp t a 0).1) (hQ : ∀ j e E' a'' wd' nu', nmF tp t a n = some (j, e) → j < n → a < e → e ≤ t → Ext E E' → TkV tp t e 9 E' a'' wd' nu' → Q (.inl (some (.int (nI j)))) (r0, x1, h2, rdC t a'' (nI (nxF tp t e 0).1) wd' nu' :: (wD 1 pf th nl ag lk co sh hs (nI n) ev se ++ E'))) : AMetX mX13_looker 9 12 384 [.ref 3] (r0, x1, h2, rdC t a fr wd nu :: (wD 1 pf th nl ag lk co sh hs (nI n) ev se ++ E)) Q := by
  refine AMetX.ofRch rfl (Nat.le_of_ble_eq_true rfl) ?_
  refine r_aload_n dX13_looker_0 rfl ?_
  refine r_callV (as := []) okX13_next bX13 rfl rfl q1037 dX13_looker_1 (Nat.le_of_ble_eq_true rfl) rfl (Nat.le_of_ble_eq_true rfl) (Nat.le_of_ble_eq_true rfl) (Nat.le_of_ble_eq_true rfl) (pX13_next (P := wD 1 pf th nl ag lk co sh hs (nI n) ev se) hT ht ha (fun E1 a1 w1 n1 x0 k1 => ?_))
  refine r_aload_n dX13_looker_4 rfl ?_
  refine r_iconst 0 dX13_looker_5 (by decide) ?_
  refine r_aload_n dX13_looker_6 rfl ?_
  refine r_get bX13 2 (by decide) q1012 dX13_looker_7 rfl rfl ?_
  refine r_get bX1 7 (by decide) q178 dX13_looker_10 rfl rfl ?_
  refine r_iconst 1 dX13_looker_13 (by decide) ?_
  refine r_isub dX13_looker_14 ?_
  refine r_xV (as := [_, _]) oxX13_number bX13 rfl rfl q1166 dX13_looker_15 (Nat.le_of_ble_eq_true rfl) rfl (Nat.le_of_ble_eq_true rfl) (Nat.le_of_ble_eq_true rfl) (Nat.le_of_ble_eq_true rfl) (pX13_number (P := wD 1 pf th nl ag lk co sh hs (nI n) ev se) (m := n) rfl (by omega) hT ht ha k1 (fun hn D g0 g1 g2 g3 g4 g5 => ?_) (fun j e E2 a2 w2 n2 c1 c2 c3 c4 xx c5 => ?_))
  · exact rt_leave rfl (Nat.le_of_ble_eq_true rfl) (Nat.le_of_ble_eq_true rfl) (hX hn D g0 g1 g2 g3 g4 g5)
  · exact r_iret dX13_looker_18 rfl (Nat.le_of_ble_eq_true rfl) (Nat.le_of_ble_eq_true rfl) (hQ _ _ _ _ _ _ c1 c2 c3 c4 (x0.trans xx) c5)
end RM
theorem nx_let {tp : Nat → Int32} {t a : Nat} {va : Int32} (h : (nxF tp t a va).2.2.1 = 119) : letB (tp (nxF tp t a va).1) = true := by
  unfold nxF tkN at h ⊢
  by_cases g1 : skT tp spB t a = t
  · rw [if_pos g1] at h
    have h : (101 : Int32) = 119 := h
    exact absurd h (by decide)
  · rw [if_neg g1] at h ⊢
    by_cases g2 : letB (tp (skT tp spB t a)) = true
    · rw [if_pos g2]; exact g2
    · rw [if_neg g2] at h
      by_cases g3 : digB (tp (skT tp spB t a)) = true
      · rw [if_pos g3] at h
        have h : (if 2 < nI (dgG tp (skT tp spB t a) (t - (skT tp spB t a + 1)) (skT tp spB t a + 1) (tp (skT tp spB t a) - 48)).1 - nI (skT tp spB t a) then (120 : Int32) else 48) = 119 := h
        split at h <;> exact absurd h (by decide)
      · rw [if_neg g3] at h
        have h : (if tp (skT tp spB t a) = 59 then (59 : Int32) else 120) = 119 := h
        split at h <;> exact absurd h (by decide)
section RT
variable {Q : Option Value → AHp → Prop} {r0 x1 h2 P E : List AC} {t a a' : Nat} {nu : Int32} {wd : Value} {tp : Nat → Int32}
theorem pX13_takes (hT : x1[29]? = some (.inl (.int, 250, .inl tp))) (ht : t ≤ 64) (ha : a ≤ t) (hk : TkV tp t a P.length E a' wd nu) (hN : ¬ (nxF tp t a 0).2.2.1 = 59 → Q (some (.int 0)) (r0, x1, h2, rdC t a' (nI (nxF tp t a 0).1) wd nu :: (P ++ E))) (hQ : ∀ E' a'' wd' nu', (nxF tp t a 0).2.2.1 = 59 → Ext E E' → TkV tp t (nxF tp t a 0).2.1 P.length E' a'' wd' nu' → Q (some (.int 1)) (r0, x1, h2, rdC t a'' (nI (nxF tp t (nxF tp t a 0).2.1 0).1) wd' nu' :: (P ++ E'))) : AMet mX13_takes 8 6 192 [.ref 3, .ref (8 * (1 + 1) + 4)] (r0, x1, h2, rdC t a' (nI (nxF tp t a 0).1) wd nu :: (P ++ E)) Q := by
  refine AMet.ofRch rfl rfl (Nat.le_of_ble_eq_true rfl) ?_
  have hle := nx_le (tp := tp) (va := 0) ha
  have h0 : wd = .null → ¬ (nxF tp t a 0).2.2.1 = 59 → Rch (mX13_takes, 8, 6, 192, oQ Q) 0 0 0 [some (.ref 3), some (.ref (8 * (1 + 1) + 4))] [] (r0, x1, h2, rdC t a' (nI (nxF tp t a 0).1) wd nu :: (P ++ E)) := by
    intro e1 e2
    have q := hN e2
    subst e1
    refine r_aload_n dX13_takes_0 rfl ?_
    refine r_get bX13 5 (by decide) q1016 dX13_takes_1 rfl rfl ?_
    refine r_ifnullN 18 dX13_takes_4 (by decide) ?_
    refine r_iconst 0 dX13_takes_18 (by decide) ?_
    exact r_zret (ty := .boolean) dX13_takes_19 rfl (rfl) (Nat.le_of_ble_eq_true rfl) (Nat.le_of_ble_eq_true rfl) (q)
  unfold TkV at hk
  rcases hk with z | z | z | z | z
  · exact h0 z.2.1 (by rw [z.1]; decide)
  · exact h0 z.2.2.1 (by rw [z.1]; decide)
  · obtain ⟨e0, rfl, rfl, rfl⟩ := z
    refine r_aload_n dX13_takes_0 rfl ?_
    refine r_get bX13 5 (by decide) q1016 dX13_takes_1 rfl rfl ?_
    refine r_ifnull dX13_takes_4 ?_
    refine r_aload_n dX13_takes_7 rfl ?_
    refine r_get bX13 5 (by decide) q1016 dX13_takes_8 rfl rfl ?_
    refine r_aload_n dX13_takes_11 rfl ?_
    refine r_callK (as := [_]) okJ5_equals sk_1 rfl q1153 dX13_takes_12 (Nat.le_of_ble_eq_true rfl) rfl (Nat.le_of_ble_eq_true rfl) (Nat.le_of_ble_eq_true rfl) (Nat.le_of_ble_eq_true rfl) (pJ5_equals_same sk_1 ?_)
    refine r_if_ne 20 dX13_takes_15 (by decide) (fun _ => ?_) (fun c_ => absurd c_ (by decide))
    refine r_aload_n dX13_takes_20 rfl ?_
    refine r_callV (as := []) okX13_next bX13 rfl rfl q1037 dX13_takes_21 (Nat.le_of_ble_eq_true rfl) rfl (Nat.le_of_ble_eq_true rfl) (Nat.le_of_ble_eq_true rfl) (Nat.le_of_ble_eq_true rfl) (pX13_next hT ht hle.2.2.1 (fun E1 a1 w1 n1 xx k1 => ?_))
    refine r_iconst 1 dX13_takes_24 (by decide) ?_
    exact r_zret (ty := .boolean) dX13_takes_25 rfl (rfl) (Nat.le_of_ble_eq_true rfl) (Nat.le_of_ble_eq_true rfl) (hQ _ _ _ _ e0 xx k1)
  · exact h0 z.2.1 (by rw [z.1]; decide)
  · obtain ⟨e0, rfl, rfl, E0, E1, k, hk, rfl, rfl⟩ := z
    have q := hN (by rw [e0]; decide)
    have hk2 : (rdC t (nxF tp t a 0).2.1 (nI (nxF tp t a 0).1) (.ref (8 * (k + 0) + 3)) (-1) :: (P ++ E0)).length = k := by
      simp only [List.length_append, List.length_cons]
      omega
    have hl := nx_let e0
    have hf : ((nxF tp t a 0).2.1 - (nxF tp t a 0).1 == [(59 : Int32)].length && eqT tp [59] (nxF tp t a 0).1 [(59 : Int32)].length 0) = false := by
      have : (tp ((nxF tp t a 0).1 + 0) == ([(59 : Int32)] : List Int32).getD 0 0) = false := by
        rw [Nat.add_zero]
        by_cases z : tp (nxF tp t a 0).1 = 59
        · rw [z] at hl
          exact absurd hl (by decide)
        · simpa using z
      show (_ && eqT tp [59] (nxF tp t a 0).1 1 0) = false
      rw [eqT_s, this, Bool.false_and, Bool.and_false]
    rw [← List.append_assoc] at q ⊢
    refine r_aload_n dX13_takes_0 rfl ?_
    refine r_get bX13 5 (by decide) q1016 dX13_takes_1 rfl rfl ?_
    refine r_ifnull dX13_takes_4 ?_
    refine r_aload_n dX13_takes_7 rfl ?_
    refine r_get bX13 5 (by decide) q1016 dX13_takes_8 rfl rfl ?_
    refine r_aload_n dX13_takes_11 rfl ?_
    refine r_callV (as := [_]) okJ5_equals bJ5 rfl (dynG hk2 (i := 0) rfl) q1153 dX13_takes_12 (Nat.le_of_ble_eq_true rfl) rfl (Nat.le_of_ble_eq_true rfl) (Nat.le_of_ble_eq_true rfl) (Nat.le_of_ble_eq_true rfl) (pJ5_equals (b := [59]) sk_1 (by decide) (dynG hk2 (i := 0) rfl) (dynG hk2 (i := 1) rfl) (by omega) ?_)
    refine r_if_ne 20 dX13_takes_15 (by decide) (fun c_ => absurd (by rw [hf]; rfl) c_) (fun _ => ?_)
    refine r_iconst 0 dX13_takes_18 (by decide) ?_
    exact r_zret (ty := .boolean) dX13_takes_19 rfl (rfl) (Nat.le_of_ble_eq_true rfl) (Nat.le_of_ble_eq_true rfl) (q)
end RT
