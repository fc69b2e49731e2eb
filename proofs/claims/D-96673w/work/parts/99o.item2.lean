set_option maxRecDepth 100000
/-! the reader: item (printed by gen/item.py) -/
theorem hs_congr {g g' : Nat → Int32} : ∀ n, (∀ j, j < n → g j = g' j) → hsG g n = hsG g' n
  | 0, _ => rfl
  | n + 1, h => by
    show 31 * hsG g n + (g n &&& 255) = 31 * hsG g' n + (g' n &&& 255)
    rw [hs_congr n (fun j hj => h j (by omega)), h n (by omega)]
theorem eqT_all {tp : Nat → Int32} {b : List Int32} {f : Nat} : ∀ q j, eqT tp b f q j = true → ∀ i, i < q → tp (f + (j + i)) = b.getD (j + i) 0
  | 0, _, _, i, hi => absurd hi (by omega)
  | q + 1, j, h, i, hi => by
    rw [eqT_s, Bool.and_eq_true] at h
    cases i with
    | zero => simpa using h.1
    | succ i =>
      have := eqT_all q (j + 1) h.2 i (by omega)
      rw [show j + (i + 1) = j + 1 + i by omega]
      exact this
/-- the word from f to e is that one -/
def wkB (tp : Nat → Int32) (b : List Int32) (f e : Nat) : Bool := e - f == b.length && eqT tp b f b.length 0
theorem hs_key {tp : Nat → Int32} {b : List Int32} {f e : Nat} (h : wkB tp b f e = true) : hsG (fun j => tp (f + j)) (e - f) = hsG (fun j => b.getD j 0) b.length := by
  unfold wkB at h
  rw [Bool.and_eq_true] at h
  have e1 : e - f = b.length := by simpa using h.1
  rw [e1]
  refine hs_congr _ (fun j hj => ?_)
  have := eqT_all _ _ h.2 j hj
  rw [Nat.zero_add] at this
  exact this
theorem wd_119 {tp : Nat → Int32} {b : List Int32} {f e : Nat} : wdB tp b f e 119 = wkB tp b f e := by
  unfold wdB wkB
  rw [show ((119 : Int32) == 119) = true by decide, Bool.true_and]
theorem wd_no {tp : Nat → Int32} {b : List Int32} {f e : Nat} {tn : Int32} (h : ¬ tn = 119) : wdB tp b f e tn = false := by
  unfold wdB
  rw [show (tn == 119) = false by simpa using h, Bool.false_and]
/-- the lookers of a window that is read lie with now's, or are new -/
def LkE (lc : Nat → AC) (E : List AC) (nl : Nat → Option Nat) (kd ow : Nat → Int32) (n : Nat) : Prop :=
  (∀ i, i < n → ∃ kk w, kk < 6 ∧ w < 8 ∧ kd i = nI kk ∧ ow i = nI w ∧ ((∃ j, j < 8 ∧ nl i = some (8 * j + 74) ∧ lc j = .inr (7 + kk, [.int (nI i), .int (nI w)])) ∨ ∃ j, nl i = some (8 * (10 + j) + 3) ∧ E[j]? = some (.inr (7 + kk, [.int (nI i), .int (nI w)])))) ∧ ∀ i, n ≤ i → nl i = none
theorem LkE.ext {lc : Nat → AC} {E E' : List AC} {nl : Nat → Option Nat} {kd ow : Nat → Int32} {n : Nat} (h : LkE lc E nl kd ow n) (hx : Ext E E') : LkE lc E' nl kd ow n := by
  refine ⟨fun i hi => ?_, h.2⟩
  obtain ⟨kk, w, h1, h2, h3, h4, h5⟩ := h.1 i hi
  refine ⟨kk, w, h1, h2, h3, h4, ?_⟩
  rcases h5 with h5 | ⟨j, e1, e2⟩
  · exact Or.inl h5
  · exact Or.inr ⟨j, e1, hx j _ _ (by omega) e2⟩
theorem LkE.add {lc : Nat → AC} {E : List AC} {nl : Nat → Option Nat} {kd ow : Nat → Int32} {n x v : Nat} (h : LkE lc E nl kd ow n) (hx : x < 6) (hv : v < 8) : LkE lc (E ++ [.inr (7 + x, [.int (nI n), .int (nI v)])]) (va_up nl n (some (8 * (10 + E.length) + 3))) (upd kd n (nI x)) (upd ow n (nI v)) (n + 1) := by
  refine ⟨fun i hi => ?_, fun i hi => by simp only [va_up, if_neg (show ¬ i = n by omega)]; exact h.2 i (by omega)⟩
  by_cases e : i = n
  · subst e
    refine ⟨x, v, hx, hv, by simp [upd], by simp [upd], Or.inr ⟨E.length, by simp [va_up], by simp⟩⟩
  · obtain ⟨kk, w, h1, h2, h3, h4, h5⟩ := (h.ext (Ext.app E [.inr (7 + x, [.int (nI n), .int (nI v)])])).1 i (by omega)
    refine ⟨kk, w, h1, h2, by simp only [upd, if_neg e]; exact h3, by simp only [upd, if_neg e]; exact h4, ?_⟩
    have e2 : va_up nl n (some (8 * (10 + E.length) + 3)) i = nl i := by simp only [va_up, if_neg e]
    rw [e2]
    exact h5
theorem pX13_item {Q : OC → AHp → Prop} {r0 x1 h2 E : List AC} {t a a' : Nat} {nu : Int32} {wd : Value} {tp : Nat → Int32} {n : Nat} {ev se : Int32} {th kd ow : Nat → Int32} {nl : Nat → Option Nat} {ag lk co sh hs : Nat → Int32} {lc : Nat → AC} (hT : x1[29]? = some (.inl (.int, 250, .inl tp))) (ht : t ≤ 64) (ha : a ≤ t) (hk : TkV tp t a 9 E a' wd nu) (hn : n ≤ 8) (hL : LkE lc E nl kd ow n) (hX : ∀ p, stF tp t (th, kd, ow, ag, lk, co, sh, hs, n) (nxF tp t a 0).1 (nxF tp t a 0).2.1 (nxF tp t a 0).2.2.1 = .inl p → FaQ Q r0 x1 h2 p) (hQ : ∀ th' kd' ow' ag' lk' co' sh' hs' n' a2 nl' E' a'' wd' nu', stF tp t (th, kd, ow, ag, lk, co, sh, hs, n) (nxF tp t a 0).1 (nxF tp t a 0).2.1 (nxF tp t a 0).2.2.1 = .inr ((th', kd', ow', ag', lk', co', sh', hs', n'), a2) → LkE lc E' nl' kd' ow' n' → (∀ i, i < n → nl' i = nl i) → TkV tp t a2 9 E' a'' wd' nu' → Q (.inl none) (r0, x1, h2, rdC t a'' (nI (nxF tp t a2 0).1) wd' nu' :: (wD 1 0 th' nl' ag' lk' co' sh' hs' (nI n') ev se ++ E'))) : AMetX mX13_item 10 32 969 [.ref 3] (r0, x1, h2, rdC t a' (nI (nxF tp t a 0).1) wd nu :: (wD 1 0 th nl ag lk co sh hs (nI n) ev se ++ E)) Q := by
  refine AMetX.ofRch rfl (Nat.le_of_ble_eq_true rfl) ?_
  have hle := nx_le (tp := tp) (va := 0) ha
  have hle2 := hle.2.2.1
  have hst : ¬ (nxF tp t a 0).2.2.1 = 119 → stF tp t (th, kd, ow, ag, lk, co, sh, hs, n) (nxF tp t a 0).1 (nxF tp t a 0).2.1 (nxF tp t a 0).2.2.1 = .inl (nxF tp t a 0).1 := by
    intro z
    simp only [stF, wd_no z, Bool.false_eq_true, if_false]
  have hnull : wd = .null → ¬ (nxF tp t a 0).2.2.1 = 119 → Rch (mX13_item, 10, 32, 969, Q) 0 0 0 [some (.ref 3), none, none, none, none] [] (r0, x1, h2, rdC t a' (nI (nxF tp t a 0).1) wd nu :: (wD 1 0 th nl ag lk co sh hs (nI n) ev se ++ E)) := by
    intro e1 e2
    have q := hX _ (hst e2)
    subst e1
    refine r_aload_n dX13_item_0 rfl ?_
    refine r_get bX13 5 (by decide) q1016 dX13_item_1 rfl rfl ?_
    refine r_ifnonnullN dX13_item_4 ?_
    refine r_aload_n dX13_item_7 rfl ?_
    refine r_callV (as := []) okX13_wrong bX13 rfl rfl q1076 dX13_item_8 (Nat.le_of_ble_eq_true rfl) rfl (Nat.le_of_ble_eq_true rfl) (Nat.le_of_ble_eq_true rfl) (Nat.le_of_ble_eq_true rfl) (pX13_wrong (fun g0 g1 g2 g3 g4 g5 => ?_))
    refine r_athrow dX13_item_11 bX14 (dynG (k := (rdC t a' (nI (nxF tp t a 0).1) .null nu :: (wD 1 0 th nl ag lk co sh hs (nI n) ev se ++ E)).length) rfl (i := 0) rfl) ?_
    exact rt_leave rfl (Nat.le_of_ble_eq_true rfl) (Nat.le_of_ble_eq_true rfl) (q _ g0 g1 g2 g3 g4 g5)
  rcases hk with z | z | z | z | z
  · exact hnull z.2.1 (by rw [z.1]; decide)
  · exact hnull z.2.2.1 (by rw [z.1]; decide)
  · obtain ⟨e0, rfl, rfl, rfl⟩ := z
    have q := hX _ (hst (by rw [e0]; decide))
    refine r_aload_n dX13_item_0 rfl ?_
    refine r_get bX13 5 (by decide) q1016 dX13_item_1 rfl rfl ?_
    refine r_ifnonnull 12 dX13_item_4 (by decide) ?_
    refine r_aload_n dX13_item_12 rfl ?_
    refine r_get bX13 5 (by decide) q1016 dX13_item_13 rfl rfl ?_
    refine r_astore_n dX13_item_16 (Nat.le_of_ble_eq_true rfl) ?_
    refine r_iconst (-1) dX13_item_17 (by decide) ?_
    refine r_istore_n dX13_item_18 (Nat.le_of_ble_eq_true rfl) ?_
    refine r_aload_n dX13_item_19 rfl ?_
    refine r_callK (as := []) okJ5_hashCode sk_1 rfl q1099 dX13_item_20 (Nat.le_of_ble_eq_true rfl) rfl (Nat.le_of_ble_eq_true rfl) (Nat.le_of_ble_eq_true rfl) (Nat.le_of_ble_eq_true rfl) (pJ5_hashCode_K sk_1 (by decide) ?_)
    refine r_lookup 161 dX13_item_23 rfl rfl (by decide) ?_
    refine r_iload_n dX13_item_161 rfl ?_
    refine r_tableOut 383 dX13_item_162 (by decide) (by decide) ?_
    refine r_aload_n dX13_item_383 rfl ?_
    refine r_callV (as := []) okX13_wrong bX13 rfl rfl q1076 dX13_item_384 (Nat.le_of_ble_eq_true rfl) rfl (Nat.le_of_ble_eq_true rfl) (Nat.le_of_ble_eq_true rfl) (Nat.le_of_ble_eq_true rfl) (pX13_wrong (fun g0 g1 g2 g3 g4 g5 => ?_))
    refine r_athrow dX13_item_387 bX14 (dynG (k := (rdC t (nxF tp t a 0).2.1 (nI (nxF tp t a 0).1) (.ref (8 * (1 + 1) + 4)) (-1) :: (wD 1 0 th nl ag lk co sh hs (nI n) ev se ++ E)).length) rfl (i := 0) rfl) ?_
    exact rt_leave rfl (Nat.le_of_ble_eq_true rfl) (Nat.le_of_ble_eq_true rfl) (q _ g0 g1 g2 g3 g4 g5)
  · exact hnull z.2.1 (by rw [z.1]; decide)
  · obtain ⟨e0, rfl, rfl, E0, E1, k, hk, rfl, rfl⟩ := z
    have hlt : (nxF tp t a 0).1 < (nxF tp t a 0).2.1 := by
      rcases hle.2.2.2 with z | z
      · rw [e0] at z; exact absurd z.1 (by decide)
      · exact z.2
    rw [e0] at hX hQ
    clear hst hnull
    generalize (nxF tp t a 0).1 = f at *
    generalize (nxF tp t a 0).2.1 = e at *
    simp only [stF, wd_119] at hX hQ
    have hk2 : (rdC t e (nI f) (.ref (8 * (k + 0) + 3)) (-1) :: (wD 1 0 th nl ag lk co sh hs (nI n) ev se ++ E0)).length = k := by
      simp only [List.length_append, List.length_cons]
      show 9 + E0.length + 1 = k
      omega
    have eA : ∀ R, (rdC t e (nI f) (.ref (8 * (k + 0) + 3)) (-1) :: (wD 1 0 th nl ag lk co sh hs (nI n) ev se ++ E0)) ++ R = rdC t e (nI f) (.ref (8 * (k + 0) + 3)) (-1) :: (wD 1 0 th nl ag lk co sh hs (nI n) ev se ++ (E0 ++ R)) := fun R => by rw [List.cons_append, List.append_assoc]
    rw [← eA]
    have H0 : wkB tp kwP f e = false → wkB tp kwC f e = false → wkB tp kwL f e = false → wkB tp kwI f e = false → wkB tp kwO f e = false → wkB tp kwS f e = false → ∀ x y, Rch (mX13_item, 10, 32, 969, Q) 0 0 161 [some (.ref 3), some (.ref (8 * (k + 0) + 3)), some (.int (-1)), none, none] [] (r0, x1, h2, (rdC t e (nI f) (.ref (8 * (k + 0) + 3)) (-1) :: (wD 1 0 th nl ag lk co sh hs (nI n) ev se ++ E0)) ++ (stC k x y :: txC tp f (e - f) :: E1)) := by
      intro h0 h1 h2 h3 h4 h5 x y
      have q := hX f (by simp only [h0, h1, h2, h3, h4, h5, Bool.false_eq_true, if_false])
      refine r_iload_n dX13_item_161 rfl ?_
      refine r_tableOut 383 dX13_item_162 (by decide) (by decide) ?_
      refine r_aload_n dX13_item_383 rfl ?_
      refine r_callV (as := []) okX13_wrong bX13 rfl rfl q1076 dX13_item_384 (Nat.le_of_ble_eq_true rfl) rfl (Nat.le_of_ble_eq_true rfl) (Nat.le_of_ble_eq_true rfl) (Nat.le_of_ble_eq_true rfl) (pX13_wrong (fun g0 g1 g2 g3 g4 g5 => ?_))
      refine r_athrow dX13_item_387 bX14 (dynG (k := ((rdC t e (nI f) (.ref (8 * (k + 0) + 3)) (-1) :: (wD 1 0 th nl ag lk co sh hs (nI n) ev se ++ E0)) ++ (stC k x y :: txC tp f (e - f) :: E1)).length) rfl (i := 0) rfl) ?_
      exact rt_leave rfl (Nat.le_of_ble_eq_true rfl) (Nat.le_of_ble_eq_true rfl) (q _ g0 g1 g2 g3 g4 g5)
    have HP : wkB tp kwP f e = true → ∀ x y, Rch (mX13_item, 10, 32, 969, Q) 0 0 161 [some (.ref 3), some (.ref (8 * (k + 0) + 3)), some (.int 0), none, none] [] (r0, x1, h2, (rdC t e (nI f) (.ref (8 * (k + 0) + 3)) (-1) :: (wD 1 0 th nl ag lk co sh hs (nI n) ev se ++ E0)) ++ (stC k x y :: txC tp f (e - f) :: E1)) := by
      intro h0 x y
      refine r_iload_n dX13_item_161 rfl ?_
      refine r_tableIn 200 dX13_item_162 (by decide) (by decide) rfl (by decide) ?_
      rw [eA]
      exact it_P hT ht hle2 (fun c1 => hX _ (by simp only [h0, Bool.false_eq_true, if_false, if_true, c1])) (fun v a1 c1 c2 => hX _ (by simp only [h0, Bool.false_eq_true, if_false, if_true, c1, c2])) (fun v a1 w a2 E' a'' wd' nu' c1 c2 xx kk => hQ _ _ _ _ _ _ _ _ _ _ _ _ _ _ _ (by simp only [h0, Bool.false_eq_true, if_false, if_true, c1, c2]) (hL.ext (Ext.trans (Ext.str (u := x) (w := y)) xx)) (fun _ _ => rfl) kk)
    have HC : wkB tp kwP f e = false → wkB tp kwC f e = true → ∀ x y, Rch (mX13_item, 10, 32, 969, Q) 0 0 161 [some (.ref 3), some (.ref (8 * (k + 0) + 3)), some (.int 1), none, none] [] (r0, x1, h2, (rdC t e (nI f) (.ref (8 * (k + 0) + 3)) (-1) :: (wD 1 0 th nl ag lk co sh hs (nI n) ev se ++ E0)) ++ (stC k x y :: txC tp f (e - f) :: E1)) := by
      intro h0 h1 x y
      refine r_iload_n dX13_item_161 rfl ?_
      refine r_tableIn 231 dX13_item_162 (by decide) (by decide) rfl (by decide) ?_
      rw [eA]
      exact it_C hT ht hle2 (fun c1 => hX _ (by simp only [h0, h1, Bool.false_eq_true, if_false, if_true, c1])) (fun v a1 E' a'' wd' nu' c1 xx kk => hQ _ _ _ _ _ _ _ _ _ _ _ _ _ _ _ (by simp only [h0, h1, Bool.false_eq_true, if_false, if_true, c1]) (hL.ext (Ext.trans (Ext.str (u := x) (w := y)) xx)) (fun _ _ => rfl) kk)
    have HL : wkB tp kwP f e = false → wkB tp kwC f e = false → wkB tp kwL f e = true → ∀ x y, Rch (mX13_item, 10, 32, 969, Q) 0 0 161 [some (.ref 3), some (.ref (8 * (k + 0) + 3)), some (.int 2), none, none] [] (r0, x1, h2, (rdC t e (nI f) (.ref (8 * (k + 0) + 3)) (-1) :: (wD 1 0 th nl ag lk co sh hs (nI n) ev se ++ E0)) ++ (stC k x y :: txC tp f (e - f) :: E1)) := by
      intro h0 h1 h2 x y
      by_cases g8 : n = 8
      · have q := hX f (by simp only [h0, h1, h2, Bool.false_eq_true, if_false, if_true, g8, if_pos])
        subst g8
        refine r_iload_n dX13_item_161 rfl ?_
        refine r_tableIn 257 dX13_item_162 (by decide) (by decide) rfl (by decide) ?_
        refine r_aload_n dX13_item_257 rfl ?_
        refine r_get bX13 2 (by decide) q1012 dX13_item_258 rfl rfl ?_
        refine r_get bX1 7 (by decide) q178 dX13_item_261 rfl rfl ?_
        refine r_bipush 8 dX13_item_264 (by decide) ?_
        refine r_icmp_ne 274 dX13_item_266 (by decide) (fun c_ => absurd (rfl) c_) (fun _ => ?_)
        refine r_aload_n dX13_item_269 rfl ?_
        refine r_callV (as := []) okX13_wrong bX13 rfl rfl q1076 dX13_item_270 (Nat.le_of_ble_eq_true rfl) rfl (Nat.le_of_ble_eq_true rfl) (Nat.le_of_ble_eq_true rfl) (Nat.le_of_ble_eq_true rfl) (pX13_wrong (fun g0 g1 g2 g3 g4 g5 => ?_))
        refine r_athrow dX13_item_273 bX14 (dynG (k := ((rdC t e (nI f) (.ref (8 * (k + 0) + 3)) (-1) :: (wD 1 0 th nl ag lk co sh hs (nI 8) ev se ++ E0)) ++ (stC k x y :: txC tp f (e - f) :: E1)).length) rfl (i := 0) rfl) ?_
        exact rt_leave rfl (Nat.le_of_ble_eq_true rfl) (Nat.le_of_ble_eq_true rfl) (q _ g0 g1 g2 g3 g4 g5)
      · refine r_iload_n dX13_item_161 rfl ?_
        refine r_tableIn 257 dX13_item_162 (by decide) (by decide) rfl (by decide) ?_
        rw [eA]
        exact it_L hT ht hle2 (by omega) (fun c1 => hX _ (by simp only [h0, h1, h2, Bool.false_eq_true, if_false, if_true, if_neg g8, c1])) (fun v a1 c1 c2 => hX _ (by simp only [h0, h1, h2, Bool.false_eq_true, if_false, if_true, if_neg g8, c1, c2])) (fun v a1 w a2 c1 c2 c3 => hX _ (by simp only [h0, h1, h2, Bool.false_eq_true, if_false, if_true, if_neg g8, c1, c2, c3])) (fun v a1 w a2 g a3 E' a'' wd' nu' c1 c2 c3 b1 b2 xx kk => hQ _ _ _ _ _ _ _ _ _ _ _ _ _ _ _ (by simp only [h0, h1, h2, Bool.false_eq_true, if_false, if_true, if_neg g8, c1, c2, c3]) ((hL.ext (Ext.trans (Ext.str (u := x) (w := y)) xx)).add b1 b2) (fun i hi => by simp only [va_up, if_neg (show ¬ i = n by omega)]) (tk_app kk))
    have HI : wkB tp kwP f e = false → wkB tp kwC f e = false → wkB tp kwL f e = false → wkB tp kwI f e = true → ∀ x y, Rch (mX13_item, 10, 32, 969, Q) 0 0 161 [some (.ref 3), some (.ref (8 * (k + 0) + 3)), some (.int 3), none, none] [] (r0, x1, h2, (rdC t e (nI f) (.ref (8 * (k + 0) + 3)) (-1) :: (wD 1 0 th nl ag lk co sh hs (nI n) ev se ++ E0)) ++ (stC k x y :: txC tp f (e - f) :: E1)) := by
      intro h0 h1 h2 h3 x y
      refine r_iload_n dX13_item_161 rfl ?_
      refine r_tableIn 312 dX13_item_162 (by decide) (by decide) rfl (by decide) ?_
      rw [eA]
      exact it_I hT ht hle2 hn (fun c1 => hX _ (by simp only [h0, h1, h2, h3, Bool.false_eq_true, if_false, if_true, c1])) (fun v a1 c1 c2 => hX _ (by simp only [h0, h1, h2, h3, Bool.false_eq_true, if_false, if_true, c1, c2])) (fun v a1 w a2 E' a'' wd' nu' c1 c2 xx kk => hQ _ _ _ _ _ _ _ _ _ _ _ _ _ _ _ (by simp only [h0, h1, h2, h3, Bool.false_eq_true, if_false, if_true, c1, c2]) (hL.ext (Ext.trans (Ext.str (u := x) (w := y)) xx)) (fun _ _ => rfl) kk)
    have HO : wkB tp kwP f e = false → wkB tp kwC f e = false → wkB tp kwL f e = false → wkB tp kwI f e = false → wkB tp kwO f e = true → ∀ x y, Rch (mX13_item, 10, 32, 969, Q) 0 0 161 [some (.ref 3), some (.ref (8 * (k + 0) + 3)), some (.int 4), none, none] [] (r0, x1, h2, (rdC t e (nI f) (.ref (8 * (k + 0) + 3)) (-1) :: (wD 1 0 th nl ag lk co sh hs (nI n) ev se ++ E0)) ++ (stC k x y :: txC tp f (e - f) :: E1)) := by
      intro h0 h1 h2 h3 h4 x y
      refine r_iload_n dX13_item_161 rfl ?_
      refine r_tableIn 338 dX13_item_162 (by decide) (by decide) rfl (by decide) ?_
      rw [eA]
      exact it_O hT ht hle2 hn (fun c1 => hX _ (by simp only [h0, h1, h2, h3, h4, Bool.false_eq_true, if_false, if_true, c1])) (fun v a1 c1 c2 => hX _ (by simp only [h0, h1, h2, h3, h4, Bool.false_eq_true, if_false, if_true, c1, c2])) (fun v a1 w a2 E' a'' wd' nu' c1 c2 xx kk => hQ _ _ _ _ _ _ _ _ _ _ _ _ _ _ _ (by simp only [h0, h1, h2, h3, h4, Bool.false_eq_true, if_false, if_true, c1, c2]) (hL.ext (Ext.trans (Ext.str (u := x) (w := y)) xx)) (fun _ _ => rfl) kk)
    have HS : wkB tp kwP f e = false → wkB tp kwC f e = false → wkB tp kwL f e = false → wkB tp kwI f e = false → wkB tp kwO f e = false → wkB tp kwS f e = true → ∀ x y, Rch (mX13_item, 10, 32, 969, Q) 0 0 161 [some (.ref 3), some (.ref (8 * (k + 0) + 3)), some (.int 5), none, none] [] (r0, x1, h2, (rdC t e (nI f) (.ref (8 * (k + 0) + 3)) (-1) :: (wD 1 0 th nl ag lk co sh hs (nI n) ev se ++ E0)) ++ (stC k x y :: txC tp f (e - f) :: E1)) := by
      intro h0 h1 h2 h3 h4 h5 x y
      refine r_iload_n dX13_item_161 rfl ?_
      refine r_tableIn 362 dX13_item_162 (by decide) (by decide) rfl (by decide) ?_
      rw [eA]
      exact it_S hT ht hle2 hn (fun c1 => hX _ (by simp only [h0, h1, h2, h3, h4, h5, Bool.false_eq_true, if_false, if_true, c1])) (fun v a1 c1 c2 => hX _ (by simp only [h0, h1, h2, h3, h4, h5, Bool.false_eq_true, if_false, if_true, c1, c2])) (fun v a1 w a2 E' a'' wd' nu' c1 c2 xx kk => hQ _ _ _ _ _ _ _ _ _ _ _ _ _ _ _ (by simp only [h0, h1, h2, h3, h4, h5, Bool.false_eq_true, if_false, if_true, c1, c2]) (hL.ext (Ext.trans (Ext.str (u := x) (w := y)) xx)) (fun _ _ => rfl) kk)
    refine r_aload_n dX13_item_0 rfl ?_
    refine r_get bX13 5 (by decide) q1016 dX13_item_1 rfl rfl ?_
    refine r_ifnonnull 12 dX13_item_4 (by decide) ?_
    refine r_aload_n dX13_item_12 rfl ?_
    refine r_get bX13 5 (by decide) q1016 dX13_item_13 rfl rfl ?_
    refine r_astore_n dX13_item_16 (Nat.le_of_ble_eq_true rfl) ?_
    refine r_iconst (-1) dX13_item_17 (by decide) ?_
    refine r_istore_n dX13_item_18 (Nat.le_of_ble_eq_true rfl) ?_
    refine r_aload_n dX13_item_19 rfl ?_
    refine r_callV (as := []) okJ5_hashCode bJ5 rfl (dynG hk2 (i := 0) rfl) q1099 dX13_item_20 (Nat.le_of_ble_eq_true rfl) rfl (Nat.le_of_ble_eq_true rfl) (Nat.le_of_ble_eq_true rfl) (Nat.le_of_ble_eq_true rfl) (pJ5_hashCode (dynG hk2 (i := 0) rfl) (dynG hk2 (i := 1) rfl) (by omega) (by omega) (fun x y => ?_))
    rw [dynS hk2 (i := 0)]
    show Rch (mX13_item, 10, 32, 969, Q) 0 0 23 [some (.ref 3), some (.ref (8 * (k + 0) + 3)), some (.int (-1)), none, none] [.int (hsG (fun j => tp (f + j)) (e - f))] (r0, x1, h2, (rdC t e (nI f) (.ref (8 * (k + 0) + 3)) (-1) :: (wD 1 0 th nl ag lk co sh hs (nI n) ev se ++ E0)) ++ (stC k x y :: txC tp f (e - f) :: E1))
    by_cases w0 : wkB tp kwP f e = true
    · have hw := w0
      have hh : hsG (fun j => tp (f + j)) (e - f) = 106748167 := (hs_key hw).trans (by decide)
      refine r_lookup 80 dX13_item_23 rfl (by rw [hh]) (by decide) ?_
      refine r_aload_n dX13_item_80 rfl ?_
      refine r_ldcS 2 [true, true, false, false, false, true, true, true, false, false] rfl rfl q1152 dX13_item_81 ?_
      refine r_callV (as := [_]) okJ5_equals bJ5 rfl (dynG hk2 (i := 0) rfl) q1153 dX13_item_83 (Nat.le_of_ble_eq_true rfl) rfl (Nat.le_of_ble_eq_true rfl) (Nat.le_of_ble_eq_true rfl) (Nat.le_of_ble_eq_true rfl) (pJ5_equals (b := kwP) sk_2 (by decide) (dynG hk2 (i := 0) rfl) (dynG hk2 (i := 1) rfl) (by omega) ?_)
      refine r_if_eq 161 dX13_item_86 (by decide) (fun c_ => absurd c_ (by rw [show (e - f == kwP.length && eqT tp kwP f kwP.length 0) = true from hw]; decide)) (fun _ => ?_)
      refine r_iconst 0 dX13_item_89 (by decide) ?_
      refine r_istore_n dX13_item_90 (Nat.le_of_ble_eq_true rfl) ?_
      refine r_goto 161 dX13_item_91 (by decide) ?_
      exact HP w0 x y
    · replace w0 := Bool.not_eq_true _ |>.mp w0
      by_cases w1 : wkB tp kwC f e = true
      · have hw := w1
        have hh : hsG (fun j => tp (f + j)) (e - f) = 94746189 := (hs_key hw).trans (by decide)
        refine r_lookup 94 dX13_item_23 rfl (by rw [hh]) (by decide) ?_
        refine r_aload_n dX13_item_94 rfl ?_
        refine r_ldcS 3 [true, true, false, false, true, false, true, false, false, false] rfl rfl q1161 dX13_item_95 ?_
        refine r_callV (as := [_]) okJ5_equals bJ5 rfl (dynG hk2 (i := 0) rfl) q1153 dX13_item_97 (Nat.le_of_ble_eq_true rfl) rfl (Nat.le_of_ble_eq_true rfl) (Nat.le_of_ble_eq_true rfl) (Nat.le_of_ble_eq_true rfl) (pJ5_equals (b := kwC) sk_3 (by decide) (dynG hk2 (i := 0) rfl) (dynG hk2 (i := 1) rfl) (by omega) ?_)
        refine r_if_eq 161 dX13_item_100 (by decide) (fun c_ => absurd c_ (by rw [show (e - f == kwC.length && eqT tp kwC f kwC.length 0) = true from hw]; decide)) (fun _ => ?_)
        refine r_iconst 1 dX13_item_103 (by decide) ?_
        refine r_istore_n dX13_item_104 (Nat.le_of_ble_eq_true rfl) ?_
        refine r_goto 161 dX13_item_105 (by decide) ?_
        exact HC w0 w1 x y
      · replace w1 := Bool.not_eq_true _ |>.mp w1
        by_cases w2 : wkB tp kwL f e = true
        · have hw := w2
          have hh : hsG (fun j => tp (f + j)) (e - f) = (-1097095284) := (hs_key hw).trans (by decide)
          refine r_lookup 108 dX13_item_23 rfl (by rw [hh]) (by decide) ?_
          refine r_aload_n dX13_item_108 rfl ?_
          refine r_ldcS 4 [true, true, false, false, true, true, false, true, false, true] rfl rfl q1162 dX13_item_109 ?_
          refine r_callV (as := [_]) okJ5_equals bJ5 rfl (dynG hk2 (i := 0) rfl) q1153 dX13_item_111 (Nat.le_of_ble_eq_true rfl) rfl (Nat.le_of_ble_eq_true rfl) (Nat.le_of_ble_eq_true rfl) (Nat.le_of_ble_eq_true rfl) (pJ5_equals (b := kwL) sk_4 (by decide) (dynG hk2 (i := 0) rfl) (dynG hk2 (i := 1) rfl) (by omega) ?_)
          refine r_if_eq 161 dX13_item_114 (by decide) (fun c_ => absurd c_ (by rw [show (e - f == kwL.length && eqT tp kwL f kwL.length 0) = true from hw]; decide)) (fun _ => ?_)
          refine r_iconst 2 dX13_item_117 (by decide) ?_
          refine r_istore_n dX13_item_118 (Nat.le_of_ble_eq_true rfl) ?_
          refine r_goto 161 dX13_item_119 (by decide) ?_
          exact HL w0 w1 w2 x y
        · replace w2 := Bool.not_eq_true _ |>.mp w2
          by_cases w3 : wkB tp kwI f e = true
          · have hw := w3
            have hh : hsG (fun j => tp (f + j)) (e - f) = 102974396 := (hs_key hw).trans (by decide)
            refine r_lookup 122 dX13_item_23 rfl (by rw [hh]) (by decide) ?_
            refine r_aload_n dX13_item_122 rfl ?_
            refine r_ldcS 5 [true, true, false, true, false, false, false, true, false, false] rfl rfl q1163 dX13_item_123 ?_
            refine r_callV (as := [_]) okJ5_equals bJ5 rfl (dynG hk2 (i := 0) rfl) q1153 dX13_item_125 (Nat.le_of_ble_eq_true rfl) rfl (Nat.le_of_ble_eq_true rfl) (Nat.le_of_ble_eq_true rfl) (Nat.le_of_ble_eq_true rfl) (pJ5_equals (b := kwI) sk_5 (by decide) (dynG hk2 (i := 0) rfl) (dynG hk2 (i := 1) rfl) (by omega) ?_)
            refine r_if_eq 161 dX13_item_128 (by decide) (fun c_ => absurd c_ (by rw [show (e - f == kwI.length && eqT tp kwI f kwI.length 0) = true from hw]; decide)) (fun _ => ?_)
            refine r_iconst 3 dX13_item_131 (by decide) ?_
            refine r_istore_n dX13_item_132 (Nat.le_of_ble_eq_true rfl) ?_
            refine r_goto 161 dX13_item_133 (by decide) ?_
            exact HI w0 w1 w2 w3 x y
          · replace w3 := Bool.not_eq_true _ |>.mp w3
            by_cases w4 : wkB tp kwO f e = true
            · have hw := w4
              have hh : hsG (fun j => tp (f + j)) (e - f) = 94843375 := (hs_key hw).trans (by decide)
              refine r_lookup 136 dX13_item_23 rfl (by rw [hh]) (by decide) ?_
              refine r_aload_n dX13_item_136 rfl ?_
              refine r_ldcS 6 [true, true, false, true, false, true, false, true, false, false] rfl rfl q1164 dX13_item_137 ?_
              refine r_callV (as := [_]) okJ5_equals bJ5 rfl (dynG hk2 (i := 0) rfl) q1153 dX13_item_139 (Nat.le_of_ble_eq_true rfl) rfl (Nat.le_of_ble_eq_true rfl) (Nat.le_of_ble_eq_true rfl) (Nat.le_of_ble_eq_true rfl) (pJ5_equals (b := kwO) sk_6 (by decide) (dynG hk2 (i := 0) rfl) (dynG hk2 (i := 1) rfl) (by omega) ?_)
              refine r_if_eq 161 dX13_item_142 (by decide) (fun c_ => absurd c_ (by rw [show (e - f == kwO.length && eqT tp kwO f kwO.length 0) = true from hw]; decide)) (fun _ => ?_)
              refine r_iconst 4 dX13_item_145 (by decide) ?_
              refine r_istore_n dX13_item_146 (Nat.le_of_ble_eq_true rfl) ?_
              refine r_goto 161 dX13_item_147 (by decide) ?_
              exact HO w0 w1 w2 w3 w4 x y
            · replace w4 := Bool.not_eq_true _ |>.mp w4
              by_cases w5 : wkB tp kwS f e = true
              · have hw := w5
                have hh : hsG (fun j => tp (f + j)) (e - f) = 109407595 := (hs_key hw).trans (by decide)
                refine r_lookup 150 dX13_item_23 rfl (by rw [hh]) (by decide) ?_
                refine r_aload_n dX13_item_150 rfl ?_
                refine r_ldcS 7 [true, true, false, true, true, false, false, true, false, false] rfl rfl q1165 dX13_item_151 ?_
                refine r_callV (as := [_]) okJ5_equals bJ5 rfl (dynG hk2 (i := 0) rfl) q1153 dX13_item_153 (Nat.le_of_ble_eq_true rfl) rfl (Nat.le_of_ble_eq_true rfl) (Nat.le_of_ble_eq_true rfl) (Nat.le_of_ble_eq_true rfl) (pJ5_equals (b := kwS) sk_7 (by decide) (dynG hk2 (i := 0) rfl) (dynG hk2 (i := 1) rfl) (by omega) ?_)
                refine r_if_eq 161 dX13_item_156 (by decide) (fun c_ => absurd c_ (by rw [show (e - f == kwS.length && eqT tp kwS f kwS.length 0) = true from hw]; decide)) (fun _ => ?_)
                refine r_iconst 5 dX13_item_159 (by decide) ?_
                refine r_istore_n dX13_item_160 (Nat.le_of_ble_eq_true rfl) ?_
                exact HS w0 w1 w2 w3 w4 w5 x y
              · replace w5 := Bool.not_eq_true _ |>.mp w5
                by_cases n0 : hsG (fun j => tp (f + j)) (e - f) = (-1097095284)
                · have hw := w2
                  refine r_lookup 108 dX13_item_23 rfl (by rw [n0]) (by decide) ?_
                  refine r_aload_n dX13_item_108 rfl ?_
                  refine r_ldcS 4 [true, true, false, false, true, true, false, true, false, true] rfl rfl q1162 dX13_item_109 ?_
                  refine r_callV (as := [_]) okJ5_equals bJ5 rfl (dynG hk2 (i := 0) rfl) q1153 dX13_item_111 (Nat.le_of_ble_eq_true rfl) rfl (Nat.le_of_ble_eq_true rfl) (Nat.le_of_ble_eq_true rfl) (Nat.le_of_ble_eq_true rfl) (pJ5_equals (b := kwL) sk_4 (by decide) (dynG hk2 (i := 0) rfl) (dynG hk2 (i := 1) rfl) (by omega) ?_)
                  refine r_if_eq 161 dX13_item_114 (by decide) (fun _ => ?_) (fun c_ => absurd (by rw [show (e - f == kwL.length && eqT tp kwL f kwL.length 0) = false from hw]; rfl) c_)
                  exact H0 w0 w1 w2 w3 w4 w5 x y
                by_cases n1 : hsG (fun j => tp (f + j)) (e - f) = 94746189
                · have hw := w1
                  refine r_lookup 94 dX13_item_23 rfl (by rw [n1]) (by decide) ?_
                  refine r_aload_n dX13_item_94 rfl ?_
                  refine r_ldcS 3 [true, true, false, false, true, false, true, false, false, false] rfl rfl q1161 dX13_item_95 ?_
                  refine r_callV (as := [_]) okJ5_equals bJ5 rfl (dynG hk2 (i := 0) rfl) q1153 dX13_item_97 (Nat.le_of_ble_eq_true rfl) rfl (Nat.le_of_ble_eq_true rfl) (Nat.le_of_ble_eq_true rfl) (Nat.le_of_ble_eq_true rfl) (pJ5_equals (b := kwC) sk_3 (by decide) (dynG hk2 (i := 0) rfl) (dynG hk2 (i := 1) rfl) (by omega) ?_)
                  refine r_if_eq 161 dX13_item_100 (by decide) (fun _ => ?_) (fun c_ => absurd (by rw [show (e - f == kwC.length && eqT tp kwC f kwC.length 0) = false from hw]; rfl) c_)
                  exact H0 w0 w1 w2 w3 w4 w5 x y
                by_cases n2 : hsG (fun j => tp (f + j)) (e - f) = 94843375
                · have hw := w4
                  refine r_lookup 136 dX13_item_23 rfl (by rw [n2]) (by decide) ?_
                  refine r_aload_n dX13_item_136 rfl ?_
                  refine r_ldcS 6 [true, true, false, true, false, true, false, true, false, false] rfl rfl q1164 dX13_item_137 ?_
                  refine r_callV (as := [_]) okJ5_equals bJ5 rfl (dynG hk2 (i := 0) rfl) q1153 dX13_item_139 (Nat.le_of_ble_eq_true rfl) rfl (Nat.le_of_ble_eq_true rfl) (Nat.le_of_ble_eq_true rfl) (Nat.le_of_ble_eq_true rfl) (pJ5_equals (b := kwO) sk_6 (by decide) (dynG hk2 (i := 0) rfl) (dynG hk2 (i := 1) rfl) (by omega) ?_)
                  refine r_if_eq 161 dX13_item_142 (by decide) (fun _ => ?_) (fun c_ => absurd (by rw [show (e - f == kwO.length && eqT tp kwO f kwO.length 0) = false from hw]; rfl) c_)
                  exact H0 w0 w1 w2 w3 w4 w5 x y
                by_cases n3 : hsG (fun j => tp (f + j)) (e - f) = 102974396
                · have hw := w3
                  refine r_lookup 122 dX13_item_23 rfl (by rw [n3]) (by decide) ?_
                  refine r_aload_n dX13_item_122 rfl ?_
                  refine r_ldcS 5 [true, true, false, true, false, false, false, true, false, false] rfl rfl q1163 dX13_item_123 ?_
                  refine r_callV (as := [_]) okJ5_equals bJ5 rfl (dynG hk2 (i := 0) rfl) q1153 dX13_item_125 (Nat.le_of_ble_eq_true rfl) rfl (Nat.le_of_ble_eq_true rfl) (Nat.le_of_ble_eq_true rfl) (Nat.le_of_ble_eq_true rfl) (pJ5_equals (b := kwI) sk_5 (by decide) (dynG hk2 (i := 0) rfl) (dynG hk2 (i := 1) rfl) (by omega) ?_)
                  refine r_if_eq 161 dX13_item_128 (by decide) (fun _ => ?_) (fun c_ => absurd (by rw [show (e - f == kwI.length && eqT tp kwI f kwI.length 0) = false from hw]; rfl) c_)
                  exact H0 w0 w1 w2 w3 w4 w5 x y
                by_cases n4 : hsG (fun j => tp (f + j)) (e - f) = 106748167
                · have hw := w0
                  refine r_lookup 80 dX13_item_23 rfl (by rw [n4]) (by decide) ?_
                  refine r_aload_n dX13_item_80 rfl ?_
                  refine r_ldcS 2 [true, true, false, false, false, true, true, true, false, false] rfl rfl q1152 dX13_item_81 ?_
                  refine r_callV (as := [_]) okJ5_equals bJ5 rfl (dynG hk2 (i := 0) rfl) q1153 dX13_item_83 (Nat.le_of_ble_eq_true rfl) rfl (Nat.le_of_ble_eq_true rfl) (Nat.le_of_ble_eq_true rfl) (Nat.le_of_ble_eq_true rfl) (pJ5_equals (b := kwP) sk_2 (by decide) (dynG hk2 (i := 0) rfl) (dynG hk2 (i := 1) rfl) (by omega) ?_)
                  refine r_if_eq 161 dX13_item_86 (by decide) (fun _ => ?_) (fun c_ => absurd (by rw [show (e - f == kwP.length && eqT tp kwP f kwP.length 0) = false from hw]; rfl) c_)
                  exact H0 w0 w1 w2 w3 w4 w5 x y
                by_cases n5 : hsG (fun j => tp (f + j)) (e - f) = 109407595
                · have hw := w5
                  refine r_lookup 150 dX13_item_23 rfl (by rw [n5]) (by decide) ?_
                  refine r_aload_n dX13_item_150 rfl ?_
                  refine r_ldcS 7 [true, true, false, true, true, false, false, true, false, false] rfl rfl q1165 dX13_item_151 ?_
                  refine r_callV (as := [_]) okJ5_equals bJ5 rfl (dynG hk2 (i := 0) rfl) q1153 dX13_item_153 (Nat.le_of_ble_eq_true rfl) rfl (Nat.le_of_ble_eq_true rfl) (Nat.le_of_ble_eq_true rfl) (Nat.le_of_ble_eq_true rfl) (pJ5_equals (b := kwS) sk_7 (by decide) (dynG hk2 (i := 0) rfl) (dynG hk2 (i := 1) rfl) (by omega) ?_)
                  refine r_if_eq 161 dX13_item_156 (by decide) (fun _ => ?_) (fun c_ => absurd (by rw [show (e - f == kwS.length && eqT tp kwS f kwS.length 0) = false from hw]; rfl) c_)
                  exact H0 w0 w1 w2 w3 w4 w5 x y
                refine r_lookup (off := 138) 161 dX13_item_23 rfl ((lv_osw n0 (by decide)).trans ((lv_osw n1 (by decide)).trans ((lv_osw n2 (by decide)).trans ((lv_osw n3 (by decide)).trans ((lv_osw n4 (by decide)).trans ((lv_osw n5 (by decide)).trans rfl)))))) (by decide) ?_
                exact H0 w0 w1 w2 w3 w4 w5 x y
