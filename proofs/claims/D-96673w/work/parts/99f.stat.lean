set_option maxRecDepth 100000
/-! the reference: a statement, the window told -/
theorem skG_le {tp : Nat → Int32} {c : Int32 → Bool} : ∀ (q i : Nat), i ≤ skG tp c q i ∧ skG tp c q i ≤ i + q
  | 0, i => ⟨Nat.le_refl _, Nat.le_refl _⟩
  | q + 1, i => by
    unfold skG
    by_cases h : c (tp i) = true
    · rw [if_pos h]
      have := skG_le (tp := tp) (c := c) q (i + 1)
      omega
    · rw [if_neg h]
      omega
theorem skT_le {tp : Nat → Int32} {c : Int32 → Bool} {t i : Nat} (h : i ≤ t) : i ≤ skT tp c t i ∧ skT tp c t i ≤ t := by
  have := skG_le (tp := tp) (c := c) (t - i) i
  unfold skT
  omega
theorem dgG_le {tp : Nat → Int32} {f : Nat} : ∀ (q i : Nat) (v : Int32), i ≤ (dgG tp f q i v).1 ∧ (dgG tp f q i v).1 ≤ i + q
  | 0, i, v => ⟨Nat.le_refl _, Nat.le_refl _⟩
  | q + 1, i, v => by
    rw [dgG_s]
    by_cases h : digB (tp i) = true
    · rw [if_pos h]
      have := dgG_le (tp := tp) (f := f) q (i + 1) (if nI i - nI f < 2 then 10 * v + tp i - 48 else v)
      omega
    · rw [if_neg h]
      exact ⟨Nat.le_refl _, Nat.le_add_right _ _⟩
/-- where a token lies -/
theorem nx_le {tp : Nat → Int32} {t a : Nat} {va : Int32} (ha : a ≤ t) : a ≤ (nxF tp t a va).1 ∧ (nxF tp t a va).1 ≤ (nxF tp t a va).2.1 ∧ (nxF tp t a va).2.1 ≤ t ∧ ((nxF tp t a va).2.2.1 = 101 ∧ (nxF tp t a va).1 = t ∨ ¬ (nxF tp t a va).2.2.1 = 101 ∧ (nxF tp t a va).1 < (nxF tp t a va).2.1) := by
  have h0 := skT_le (tp := tp) (c := spB) ha
  unfold nxF tkN
  generalize skT tp spB t a = i at *
  by_cases h1 : i = t
  · rw [if_pos h1]
    refine ⟨h0.1, Nat.le_refl _, h0.2, Or.inl ⟨rfl, h1⟩⟩
  · rw [if_neg h1]
    by_cases h2 : letB (tp i) = true
    · rw [if_pos h2]
      have := skT_le (tp := tp) (c := letB) (t := t) (i := i + 1) (by omega)
      exact ⟨h0.1, by show i ≤ skT tp letB t (i + 1); omega, this.2, Or.inr ⟨by show ¬ (119 : Int32) = 101; decide, by show i < skT tp letB t (i + 1); omega⟩⟩
    · rw [if_neg h2]
      by_cases h3 : digB (tp i) = true
      · rw [if_pos h3]
        have := dgG_le (tp := tp) (f := i) (t - (i + 1)) (i + 1) (tp i - 48)
        refine ⟨h0.1, by show i ≤ (dgG tp i (t - (i + 1)) (i + 1) (tp i - 48)).1; omega, by show (dgG tp i (t - (i + 1)) (i + 1) (tp i - 48)).1 ≤ t; omega, Or.inr ⟨?_, by show i < (dgG tp i (t - (i + 1)) (i + 1) (tp i - 48)).1; omega⟩⟩
        show ¬ (if 2 < nI (dgG tp i (t - (i + 1)) (i + 1) (tp i - 48)).1 - nI i then (120 : Int32) else 48) = 101
        split <;> decide
      · rw [if_neg h3]
        refine ⟨h0.1, Nat.le_succ _, by show i + 1 ≤ t; omega, Or.inr ⟨?_, Nat.lt_succ_self _⟩⟩
        show ¬ (if tp i = 59 then (59 : Int32) else 120) = 101
        split <;> decide
theorem nx_va (tp : Nat → Int32) (t a : Nat) (va : Int32) : (nxF tp t a va).1 = (nxF tp t a 0).1 ∧ (nxF tp t a va).2.1 = (nxF tp t a 0).2.1 ∧ (nxF tp t a va).2.2.1 = (nxF tp t a 0).2.2.1 ∧ ((nxF tp t a va).2.2.1 = 48 → (nxF tp t a va).2.2.2 = (nxF tp t a 0).2.2.2) := by
  unfold nxF tkN
  generalize skT tp spB t a = i
  by_cases h1 : i = t
  · simp only [if_pos h1]
    exact ⟨trivial, trivial, trivial, fun z => absurd z (by decide)⟩
  · simp only [if_neg h1]
    by_cases h2 : letB (tp i) = true
    · simp only [if_pos h2]
      exact ⟨trivial, trivial, trivial, fun z => absurd z (by decide)⟩
    · simp only [if_neg h2]
      by_cases h3 : digB (tp i) = true
      · simp only [if_pos h3]
        exact ⟨trivial, trivial, trivial, fun _ => trivial⟩
      · simp only [if_neg h3]
        refine ⟨trivial, trivial, trivial, fun z => ?_⟩
        have z : (if tp i = 59 then (59 : Int32) else 120) = 48 := z
        split at z <;> exact absurd z (by decide)
/-- a number below m comes: it and the place behind it -/
def nmF (tp : Nat → Int32) (t a m : Nat) : Option (Nat × Nat) := if (nxF tp t a 0).2.2.1 = 48 ∧ inB (nxF tp t a 0).2.2.2 0 (nI m - 1) = true then some ((nxF tp t a 0).2.2.2.toNatClampNeg, (nxF tp t a 0).2.1) else none
theorem nm_some {tp : Nat → Int32} {t a m j e : Nat} (hm : m < 1000) (ha : a ≤ t) (h : nmF tp t a m = some (j, e)) : (nxF tp t a 0).2.2.1 = 48 ∧ (nxF tp t a 0).2.2.2 = nI j ∧ j < m ∧ (nxF tp t a 0).2.1 = e ∧ a < e ∧ e ≤ t := by
  unfold nmF at h
  by_cases g : (nxF tp t a 0).2.2.1 = 48 ∧ inB (nxF tp t a 0).2.2.2 0 (nI m - 1) = true
  · rw [if_pos g] at h
    have h1 := Prod.mk.inj (Option.some.inj h)
    obtain ⟨q, hq, eq⟩ := inB_m g.2 (by omega)
    have e1 : j = q := by rw [← h1.1, eq, nI_clamp (by omega)]
    have h2 := nx_le (tp := tp) (va := 0) ha
    rw [h1.2, g.1] at h2
    refine ⟨g.1, by rw [eq, e1], by omega, h1.2, ?_, h2.2.2.1⟩
    rcases h2.2.2.2 with z | z
    · exact absurd z.1 (by decide)
    · omega
  · rw [if_neg g] at h
    cases h
/-- the words -/
def kwP : List Int32 := [112, 108, 97, 99, 101]
def kwC : List Int32 := [99, 108, 101, 97, 114]
def kwL : List Int32 := [108, 111, 111, 107, 101, 114]
def kwI : List Int32 := [108, 105, 107, 101, 115]
def kwO : List Int32 := [99, 111, 109, 101, 115]
def kwS : List Int32 := [115, 104, 105, 110, 101]
/-- what a window's text tells: places, kinds, own, ages, likes, comes, shine, has, how many -/
abbrev WdT : Type := (Nat → Int32) × (Nat → Int32) × (Nat → Int32) × (Nat → Int32) × (Nat → Int32) × (Nat → Int32) × (Nat → Int32) × (Nat → Int32) × Nat
/-- one statement, whose word is the token from f to e: where it fails, or what it leaves and the place behind it -/
def stF (tp : Nat → Int32) (t : Nat) (w : WdT) (f e : Nat) (tn : Int32) : Nat ⊕ (WdT × Nat) := match w with
  | (th, kd, ow, ag, lk, co, sh, hs, n) =>
    if wdB tp kwP f e tn = true then match nmF tp t e 12 with
      | none => .inl (nxF tp t e 0).1
      | some (x, a1) => match nmF tp t a1 8 with
        | none => .inl (nxF tp t a1 0).1
        | some (v, a2) => .inr ((upd th x (nI v), kd, ow, ag, lk, co, sh, hs, n), a2)
    else if wdB tp kwC f e tn = true then match nmF tp t e 12 with
      | none => .inl (nxF tp t e 0).1
      | some (x, a1) => .inr ((upd th x (-1), kd, ow, ag, lk, co, sh, hs, n), a1)
    else if wdB tp kwL f e tn = true then if n = 8 then .inl f else match nmF tp t e 6 with
      | none => .inl (nxF tp t e 0).1
      | some (x, a1) => match nmF tp t a1 8 with
        | none => .inl (nxF tp t a1 0).1
        | some (v, a2) => match nmF tp t a2 100 with
          | none => .inl (nxF tp t a2 0).1
          | some (g, a3) => .inr ((th, upd kd n (nI x), upd ow n (nI v), upd ag n (nI g), upd lk n 0, upd co n 6, upd sh n (-1), zrI hs (8 * n) 8, n + 1), a3)
    else if wdB tp kwI f e tn = true then match nmF tp t e n with
      | none => .inl (nxF tp t e 0).1
      | some (x, a1) => match nmF tp t a1 8 with
        | none => .inl (nxF tp t a1 0).1
        | some (v, a2) => .inr ((th, kd, ow, ag, upd lk x (lk x ||| ((1 : Int32) <<< (nI v &&& 31))), co, sh, hs, n), a2)
    else if wdB tp kwO f e tn = true then match nmF tp t e n with
      | none => .inl (nxF tp t e 0).1
      | some (x, a1) => match nmF tp t a1 13 with
        | none => .inl (nxF tp t a1 0).1
        | some (v, a2) => .inr ((th, kd, ow, ag, lk, upd co x (nI v), sh, hs, n), a2)
    else if wdB tp kwS f e tn = true then match nmF tp t e n with
      | none => .inl (nxF tp t e 0).1
      | some (x, a1) => match nmF tp t a1 8 with
        | none => .inl (nxF tp t a1 0).1
        | some (v, a2) => .inr ((th, kd, ow, ag, lk, co, upd sh x (nI v), hs, n), a2)
    else .inl f
section MM
variable {th kd ow ag lk co sh hs tp hd rl : Nat → Int32} {ro : Nat → Int64} {rf ol ah tr od tk fo wi ou ge mo : Nat → Int32} {my ev se td fr to tn va im lo : Int32} {r : List AC × List AC × List AC} {Q : Option Value → AHp → Prop}
theorem pX5_numberC {t a m : Nat} {y : Int32} (hy : y = nI m - 1) (hm : m < 1000) (ht : t ≤ 250) (ha : a ≤ t) (hQn : ∀ to tn va, nmF tp t a m = none → Q (some (.int (-1))) ((mC th kd ow ag lk co sh hs tp hd rl ro rf ol ah tr od tk fo wi ou ge mo my ev se (nI t) (nI (nxF tp t a 0).1) (to) (tn) (va) im lo), r)) (hQs : ∀ j a1 fr tn va, nmF tp t a m = some (j, a1) → j < m → a < a1 → a1 ≤ t → Q (some (.int (nI j))) ((mC th kd ow ag lk co sh hs tp hd rl ro rf ol ah tr od tk fo wi ou ge mo my ev se (nI t) (fr) (nI a1) (tn) (va) im lo), r)) : AMet mX5_number 3 0 0 [.ref 0, .int 0, .int y] ((mC th kd ow ag lk co sh hs tp hd rl ro rf ol ah tr od tk fo wi ou ge mo my ev se (nI t) fr (nI a) tn va im lo), r) Q := by
  refine pX5_number ht ha ?_
  have hv := nx_va tp t a va
  by_cases g : (nxF tp t a va).2.2.1 = 48 ∧ inB (nxF tp t a va).2.2.2 0 y = true
  · rw [if_pos g]
    have e0 : nmF tp t a m = some ((nxF tp t a 0).2.2.2.toNatClampNeg, (nxF tp t a 0).2.1) := by
      unfold nmF
      rw [← hy, ← hv.2.2.1, ← hv.2.2.2 g.1, if_pos g]
    obtain ⟨e1, e2, e3, e4, e5, e6⟩ := nm_some hm ha e0
    have := hQs _ _ (nI (nxF tp t a va).1) (nxF tp t a va).2.2.1 (nxF tp t a va).2.2.2 e0 e3 e5 e6
    rw [hv.2.1]
    rw [show (nxF tp t a va).2.2.2 = nI (nxF tp t a 0).2.2.2.toNatClampNeg from (hv.2.2.2 g.1).trans e2] at this ⊢
    exact this
  · rw [if_neg g]
    have e0 : nmF tp t a m = none := by
      unfold nmF
      rw [if_neg]
      rw [← hy, ← hv.2.2.1]
      exact fun z => g ⟨z.1, by rw [hv.2.2.2 z.1]; exact z.2⟩
    have := hQn (nI (nxF tp t a va).2.1) (nxF tp t a va).2.2.1 (nxF tp t a va).2.2.2 e0
    rw [hv.1]
    exact this
theorem nI_ne1 {j : Nat} (h : j < 1000) : ¬ nI j = -1 := fun z => by
  have := congrArg Int32.toInt z
  rw [nI_toInt (by omega)] at this
  have h2 : (-1 : Int32).toInt = -1 := by decide
  omega
theorem pX5_statement {t n f e : Nat} (ht : t ≤ 250) (hn : n ≤ 8) (hfe : f ≤ e) (het : e ≤ t) (hQ0 : ∀ p to tn' va, stF tp t (th, kd, ow, ag, lk, co, sh, hs, n) f e tn = .inl p → Q (some (.int 0)) ((mC th kd ow ag lk co sh hs tp hd rl ro rf ol ah tr od tk fo wi ou ge mo (nI n) ev se (nI t) (nI p) (to) (tn') (va) im lo), r)) (hQ1 : ∀ th' kd' ow' ag' lk' co' sh' hs' n' a fr tn' va, stF tp t (th, kd, ow, ag, lk, co, sh, hs, n) f e tn = .inr ((th', kd', ow', ag', lk', co', sh', hs', n'), a) → Q (some (.int 1)) ((mC (th') (kd') (ow') (ag') (lk') (co') (sh') (hs') tp hd rl ro rf ol ah tr od tk fo wi ou ge mo (nI n') ev se (nI t) (fr) (nI a) (tn') (va) im lo), r)) : AMet mX5_statement 6 0 0 [.ref 0] ((mC th kd ow ag lk co sh hs tp hd rl ro rf ol ah tr od tk fo wi ou ge mo (nI n) ev se (nI t) (nI f) (nI e) tn va im lo), r) Q := by
  refine AMet.ofRch rfl rfl (Nat.le_of_ble_eq_true rfl) ?_
  have cP : Chs kwP := chs_of (by decide) (by decide)
  have cC : Chs kwC := chs_of (by decide) (by decide)
  have cL : Chs kwL := chs_of (by decide) (by decide)
  have cI : Chs kwI := chs_of (by decide) (by decide)
  have cO : Chs kwO := chs_of (by decide) (by decide)
  have cS : Chs kwS := chs_of (by decide) (by decide)
  unfold stF at hQ0 hQ1
  dsimp only at hQ0 hQ1
  by_cases g1 : wdB tp kwP f e tn = true
  · simp only [if_pos g1] at hQ0 hQ1
    refine r_aload_n dX5_statement_0 rfl ?_
    refine r_ldcS 8 [true, true, false, true, true, true, false, true, false, true] rfl rfl q1782 dX5_statement_1 ?_
    refine r_callV (as := [_]) okX5_isWord bX5 rfl rfl q1783 dX5_statement_3 (Nat.le_of_ble_eq_true rfl) rfl (Nat.le_of_ble_eq_true rfl) (Nat.le_of_ble_eq_true rfl) (Nat.le_of_ble_eq_true rfl) (pX5_isWord (b := kwP) sk_8 cP hfe (by omega) ?_)
    refine r_if_eq 50 dX5_statement_6 (by decide) (fun c_ => absurd c_ (b2i_n.mpr g1)) (fun _ => ?_)
    refine r_aload_n dX5_statement_9 rfl ?_
    refine r_iconst 0 dX5_statement_10 (by decide) ?_
    refine r_bipush 11 dX5_statement_11 (by decide) ?_
    refine r_callV (as := [_, _]) okX5_number bX5 rfl rfl q1799 dX5_statement_13 (Nat.le_of_ble_eq_true rfl) rfl (Nat.le_of_ble_eq_true rfl) (Nat.le_of_ble_eq_true rfl) (Nat.le_of_ble_eq_true rfl) (pX5_numberC (m := 12) (by decide) (by omega) ht (by omega) (fun to tn va hn => ?_) (fun j a1 fr tn va hn hj1 hj2 hj3 => ?_))
    · simp only [hn] at hQ0
      refine r_istore_n dX5_statement_16 (Nat.le_of_ble_eq_true rfl) ?_
      refine r_iload_n dX5_statement_17 rfl ?_
      refine r_iconst (-1) dX5_statement_18 (by decide) ?_
      refine r_icmp_ne 26 dX5_statement_19 (by decide) (fun c_ => absurd (rfl) c_) (fun _ => ?_)
      refine r_iconst (-1) dX5_statement_22 (by decide) ?_
      refine r_goto 33 dX5_statement_23 (by decide) ?_
      refine r_istore_n dX5_statement_33 (Nat.le_of_ble_eq_true rfl) ?_
      refine r_iload_n dX5_statement_34 rfl ?_
      refine r_iconst (-1) dX5_statement_35 (by decide) ?_
      refine r_icmp_ne 41 dX5_statement_36 (by decide) (fun c_ => absurd (rfl) c_) (fun _ => ?_)
      refine r_iconst 0 dX5_statement_39 (by decide) ?_
      exact r_zret (ty := .boolean) dX5_statement_40 rfl (rfl) (Nat.le_of_ble_eq_true rfl) (Nat.le_of_ble_eq_true rfl) (hQ0 _ _ _ _ rfl)
    · simp only [hn] at hQ0 hQ1
      refine r_istore_n dX5_statement_16 (Nat.le_of_ble_eq_true rfl) ?_
      refine r_iload_n dX5_statement_17 rfl ?_
      refine r_iconst (-1) dX5_statement_18 (by decide) ?_
      refine r_icmp_ne 26 dX5_statement_19 (by decide) (fun _ => ?_) (fun c_ => absurd c_ (nI_ne1 (by omega)))
      refine r_aload_n dX5_statement_26 rfl ?_
      refine r_iconst 0 dX5_statement_27 (by decide) ?_
      refine r_bipush 7 dX5_statement_28 (by decide) ?_
      refine r_callV (as := [_, _]) okX5_number bX5 rfl rfl q1799 dX5_statement_30 (Nat.le_of_ble_eq_true rfl) rfl (Nat.le_of_ble_eq_true rfl) (Nat.le_of_ble_eq_true rfl) (Nat.le_of_ble_eq_true rfl) (pX5_numberC (m := 8) (by decide) (by omega) ht (by omega) (fun to tn va hn2 => ?_) (fun j2 a2 fr tn va hn2 hj1 hj2 hj3 => ?_))
      · simp only [hn2] at hQ0
        refine r_istore_n dX5_statement_33 (Nat.le_of_ble_eq_true rfl) ?_
        refine r_iload_n dX5_statement_34 rfl ?_
        refine r_iconst (-1) dX5_statement_35 (by decide) ?_
        refine r_icmp_ne 41 dX5_statement_36 (by decide) (fun c_ => absurd (rfl) c_) (fun _ => ?_)
        refine r_iconst 0 dX5_statement_39 (by decide) ?_
        exact r_zret (ty := .boolean) dX5_statement_40 rfl (rfl) (Nat.le_of_ble_eq_true rfl) (Nat.le_of_ble_eq_true rfl) (hQ0 _ _ _ _ rfl)
      · simp only [hn2] at hQ1
        refine r_istore_n dX5_statement_33 (Nat.le_of_ble_eq_true rfl) ?_
        refine r_iload_n dX5_statement_34 rfl ?_
        refine r_iconst (-1) dX5_statement_35 (by decide) ?_
        refine r_icmp_ne 41 dX5_statement_36 (by decide) (fun _ => ?_) (fun c_ => absurd c_ (nI_ne1 (by omega)))
        refine r_aload_n dX5_statement_41 rfl ?_
        refine r_get bX5 0 (by decide) q1523 dX5_statement_42 rfl rfl ?_
        refine r_iload_n dX5_statement_45 rfl ?_
        refine r_iload_n dX5_statement_46 rfl ?_
        refine r_iastN dX5_statement_47 rfl (by omega) (Nat.le_of_ble_eq_true rfl) ?_
        refine r_iconst 1 dX5_statement_48 (by decide) ?_
        exact r_zret (ty := .boolean) dX5_statement_49 rfl (rfl) (Nat.le_of_ble_eq_true rfl) (Nat.le_of_ble_eq_true rfl) (hQ1 _ _ _ _ _ _ _ _ _ _ _ _ _ rfl)
  simp only [if_neg g1] at hQ0 hQ1
  by_cases g2 : wdB tp kwC f e tn = true
  · simp only [if_pos g2] at hQ0 hQ1
    refine r_aload_n dX5_statement_0 rfl ?_
    refine r_ldcS 8 [true, true, false, true, true, true, false, true, false, true] rfl rfl q1782 dX5_statement_1 ?_
    refine r_callV (as := [_]) okX5_isWord bX5 rfl rfl q1783 dX5_statement_3 (Nat.le_of_ble_eq_true rfl) rfl (Nat.le_of_ble_eq_true rfl) (Nat.le_of_ble_eq_true rfl) (Nat.le_of_ble_eq_true rfl) (pX5_isWord (b := kwP) sk_8 cP hfe (by omega) ?_)
    refine r_if_eq 50 dX5_statement_6 (by decide) (fun _ => ?_) (fun c_ => absurd (b2i_0.mpr (by simpa using g1)) c_)
    refine r_aload_n dX5_statement_50 rfl ?_
    refine r_ldcS 9 [true, true, true, false, false, false, false, true, true, true] rfl rfl q1803 dX5_statement_51 ?_
    refine r_callV (as := [_]) okX5_isWord bX5 rfl rfl q1783 dX5_statement_53 (Nat.le_of_ble_eq_true rfl) rfl (Nat.le_of_ble_eq_true rfl) (Nat.le_of_ble_eq_true rfl) (Nat.le_of_ble_eq_true rfl) (pX5_isWord (b := kwC) sk_9 cC hfe (by omega) ?_)
    refine r_if_eq 83 dX5_statement_56 (by decide) (fun c_ => absurd c_ (b2i_n.mpr g2)) (fun _ => ?_)
    refine r_aload_n dX5_statement_59 rfl ?_
    refine r_iconst 0 dX5_statement_60 (by decide) ?_
    refine r_bipush 11 dX5_statement_61 (by decide) ?_
    refine r_callV (as := [_, _]) okX5_number bX5 rfl rfl q1799 dX5_statement_63 (Nat.le_of_ble_eq_true rfl) rfl (Nat.le_of_ble_eq_true rfl) (Nat.le_of_ble_eq_true rfl) (Nat.le_of_ble_eq_true rfl) (pX5_numberC (m := 12) (by decide) (by omega) ht (by omega) (fun to tn va hn => ?_) (fun j a1 fr tn va hn hj1 hj2 hj3 => ?_))
    · simp only [hn] at hQ0
      refine r_istore_n dX5_statement_66 (Nat.le_of_ble_eq_true rfl) ?_
      refine r_iload_n dX5_statement_67 rfl ?_
      refine r_iconst (-1) dX5_statement_68 (by decide) ?_
      refine r_icmp_ne 74 dX5_statement_69 (by decide) (fun c_ => absurd (rfl) c_) (fun _ => ?_)
      refine r_iconst 0 dX5_statement_72 (by decide) ?_
      exact r_zret (ty := .boolean) dX5_statement_73 rfl (rfl) (Nat.le_of_ble_eq_true rfl) (Nat.le_of_ble_eq_true rfl) (hQ0 _ _ _ _ rfl)
    · simp only [hn] at hQ1
      refine r_istore_n dX5_statement_66 (Nat.le_of_ble_eq_true rfl) ?_
      refine r_iload_n dX5_statement_67 rfl ?_
      refine r_iconst (-1) dX5_statement_68 (by decide) ?_
      refine r_icmp_ne 74 dX5_statement_69 (by decide) (fun _ => ?_) (fun c_ => absurd c_ (nI_ne1 (by omega)))
      refine r_aload_n dX5_statement_74 rfl ?_
      refine r_get bX5 0 (by decide) q1523 dX5_statement_75 rfl rfl ?_
      refine r_iload_n dX5_statement_78 rfl ?_
      refine r_iconst (-1) dX5_statement_79 (by decide) ?_
      refine r_iastN dX5_statement_80 rfl (by omega) (Nat.le_of_ble_eq_true rfl) ?_
      refine r_iconst 1 dX5_statement_81 (by decide) ?_
      exact r_zret (ty := .boolean) dX5_statement_82 rfl (rfl) (Nat.le_of_ble_eq_true rfl) (Nat.le_of_ble_eq_true rfl) (hQ1 _ _ _ _ _ _ _ _ _ _ _ _ _ rfl)
  simp only [if_neg g2] at hQ0 hQ1
  by_cases g3 : wdB tp kwL f e tn = true
  · simp only [if_pos g3] at hQ0 hQ1
    refine r_aload_n dX5_statement_0 rfl ?_
    refine r_ldcS 8 [true, true, false, true, true, true, false, true, false, true] rfl rfl q1782 dX5_statement_1 ?_
    refine r_callV (as := [_]) okX5_isWord bX5 rfl rfl q1783 dX5_statement_3 (Nat.le_of_ble_eq_true rfl) rfl (Nat.le_of_ble_eq_true rfl) (Nat.le_of_ble_eq_true rfl) (Nat.le_of_ble_eq_true rfl) (pX5_isWord (b := kwP) sk_8 cP hfe (by omega) ?_)
    refine r_if_eq 50 dX5_statement_6 (by decide) (fun _ => ?_) (fun c_ => absurd (b2i_0.mpr (by simpa using g1)) c_)
    refine r_aload_n dX5_statement_50 rfl ?_
    refine r_ldcS 9 [true, true, true, false, false, false, false, true, true, true] rfl rfl q1803 dX5_statement_51 ?_
    refine r_callV (as := [_]) okX5_isWord bX5 rfl rfl q1783 dX5_statement_53 (Nat.le_of_ble_eq_true rfl) rfl (Nat.le_of_ble_eq_true rfl) (Nat.le_of_ble_eq_true rfl) (Nat.le_of_ble_eq_true rfl) (pX5_isWord (b := kwC) sk_9 cC hfe (by omega) ?_)
    refine r_if_eq 83 dX5_statement_56 (by decide) (fun _ => ?_) (fun c_ => absurd (b2i_0.mpr (by simpa using g2)) c_)
    refine r_aload_n dX5_statement_83 rfl ?_
    refine r_ldcS 10 [true, true, true, false, false, true, true, false, true, true] rfl rfl q1804 dX5_statement_84 ?_
    refine r_callV (as := [_]) okX5_isWord bX5 rfl rfl q1783 dX5_statement_86 (Nat.le_of_ble_eq_true rfl) rfl (Nat.le_of_ble_eq_true rfl) (Nat.le_of_ble_eq_true rfl) (Nat.le_of_ble_eq_true rfl) (pX5_isWord (b := kwL) sk_10 cL hfe (by omega) ?_)
    refine r_if_eq 161 dX5_statement_89 (by decide) (fun c_ => absurd c_ (b2i_n.mpr g3)) (fun _ => ?_)
    by_cases g : n = 8
    · simp only [if_pos g] at hQ0
      subst g
      refine r_aload_n dX5_statement_92 rfl ?_
      refine r_get bX5 1 (by decide) q1524 dX5_statement_93 rfl rfl ?_
      refine r_bipush 8 dX5_statement_96 (by decide) ?_
      refine r_icmp_ne 103 dX5_statement_98 (by decide) (fun c_ => absurd (rfl) c_) (fun _ => ?_)
      refine r_iconst 0 dX5_statement_101 (by decide) ?_
      exact r_zret (ty := .boolean) dX5_statement_102 rfl (rfl) (Nat.le_of_ble_eq_true rfl) (Nat.le_of_ble_eq_true rfl) (hQ0 _ _ _ _ rfl)
    · simp only [if_neg g] at hQ0 hQ1
      refine r_aload_n dX5_statement_92 rfl ?_
      refine r_get bX5 1 (by decide) q1524 dX5_statement_93 rfl rfl ?_
      refine r_bipush 8 dX5_statement_96 (by decide) ?_
      refine r_icmp_ne 103 dX5_statement_98 (by decide) (fun _ => ?_) (fun c_ => absurd c_ (fun z => g ((nI_eq (by omega) (by decide)).mp z)))
      refine r_aload_n dX5_statement_103 rfl ?_
      refine r_iconst 0 dX5_statement_104 (by decide) ?_
      refine r_iconst 5 dX5_statement_105 (by decide) ?_
      refine r_callV (as := [_, _]) okX5_number bX5 rfl rfl q1799 dX5_statement_106 (Nat.le_of_ble_eq_true rfl) rfl (Nat.le_of_ble_eq_true rfl) (Nat.le_of_ble_eq_true rfl) (Nat.le_of_ble_eq_true rfl) (pX5_numberC (m := 6) (by decide) (by omega) ht (by omega) (fun to tn va hn => ?_) (fun j a1 fr tn va hn hj1 hj2 hj3 => ?_))
      · simp only [hn] at hQ0
        refine r_istore_n dX5_statement_109 (Nat.le_of_ble_eq_true rfl) ?_
        refine r_iload_n dX5_statement_110 rfl ?_
        refine r_iconst (-1) dX5_statement_111 (by decide) ?_
        refine r_icmp_ne 119 dX5_statement_112 (by decide) (fun c_ => absurd (rfl) c_) (fun _ => ?_)
        refine r_iconst (-1) dX5_statement_115 (by decide) ?_
        refine r_goto 126 dX5_statement_116 (by decide) ?_
        refine r_istore_n dX5_statement_126 (Nat.le_of_ble_eq_true rfl) ?_
        refine r_iload_n dX5_statement_127 rfl ?_
        refine r_iconst (-1) dX5_statement_128 (by decide) ?_
        refine r_icmp_ne 136 dX5_statement_129 (by decide) (fun c_ => absurd (rfl) c_) (fun _ => ?_)
        refine r_iconst (-1) dX5_statement_132 (by decide) ?_
        refine r_goto 143 dX5_statement_133 (by decide) ?_
        refine r_istore_n dX5_statement_143 (Nat.le_of_ble_eq_true rfl) ?_
        refine r_iload_n dX5_statement_144 rfl ?_
        refine r_iconst (-1) dX5_statement_145 (by decide) ?_
        refine r_icmp_ne 151 dX5_statement_146 (by decide) (fun c_ => absurd (rfl) c_) (fun _ => ?_)
        refine r_iconst 0 dX5_statement_149 (by decide) ?_
        exact r_zret (ty := .boolean) dX5_statement_150 rfl (rfl) (Nat.le_of_ble_eq_true rfl) (Nat.le_of_ble_eq_true rfl) (hQ0 _ _ _ _ rfl)
      · simp only [hn] at hQ0 hQ1
        refine r_istore_n dX5_statement_109 (Nat.le_of_ble_eq_true rfl) ?_
        refine r_iload_n dX5_statement_110 rfl ?_
        refine r_iconst (-1) dX5_statement_111 (by decide) ?_
        refine r_icmp_ne 119 dX5_statement_112 (by decide) (fun _ => ?_) (fun c_ => absurd c_ (nI_ne1 (by omega)))
        refine r_aload_n dX5_statement_119 rfl ?_
        refine r_iconst 0 dX5_statement_120 (by decide) ?_
        refine r_bipush 7 dX5_statement_121 (by decide) ?_
        refine r_callV (as := [_, _]) okX5_number bX5 rfl rfl q1799 dX5_statement_123 (Nat.le_of_ble_eq_true rfl) rfl (Nat.le_of_ble_eq_true rfl) (Nat.le_of_ble_eq_true rfl) (Nat.le_of_ble_eq_true rfl) (pX5_numberC (m := 8) (by decide) (by omega) ht (by omega) (fun to tn va hn2 => ?_) (fun j2 a2 fr tn va hn2 hj1 hj2 hj3 => ?_))
        · simp only [hn2] at hQ0
          refine r_istore_n dX5_statement_126 (Nat.le_of_ble_eq_true rfl) ?_
          refine r_iload_n dX5_statement_127 rfl ?_
          refine r_iconst (-1) dX5_statement_128 (by decide) ?_
          refine r_icmp_ne 136 dX5_statement_129 (by decide) (fun c_ => absurd (rfl) c_) (fun _ => ?_)
          refine r_iconst (-1) dX5_statement_132 (by decide) ?_
          refine r_goto 143 dX5_statement_133 (by decide) ?_
          refine r_istore_n dX5_statement_143 (Nat.le_of_ble_eq_true rfl) ?_
          refine r_iload_n dX5_statement_144 rfl ?_
          refine r_iconst (-1) dX5_statement_145 (by decide) ?_
          refine r_icmp_ne 151 dX5_statement_146 (by decide) (fun c_ => absurd (rfl) c_) (fun _ => ?_)
          refine r_iconst 0 dX5_statement_149 (by decide) ?_
          exact r_zret (ty := .boolean) dX5_statement_150 rfl (rfl) (Nat.le_of_ble_eq_true rfl) (Nat.le_of_ble_eq_true rfl) (hQ0 _ _ _ _ rfl)
        · simp only [hn2] at hQ0 hQ1
          refine r_istore_n dX5_statement_126 (Nat.le_of_ble_eq_true rfl) ?_
          refine r_iload_n dX5_statement_127 rfl ?_
          refine r_iconst (-1) dX5_statement_128 (by decide) ?_
          refine r_icmp_ne 136 dX5_statement_129 (by decide) (fun _ => ?_) (fun c_ => absurd c_ (nI_ne1 (by omega)))
          refine r_aload_n dX5_statement_136 rfl ?_
          refine r_iconst 0 dX5_statement_137 (by decide) ?_
          refine r_bipush 99 dX5_statement_138 (by decide) ?_
          refine r_callV (as := [_, _]) okX5_number bX5 rfl rfl q1799 dX5_statement_140 (Nat.le_of_ble_eq_true rfl) rfl (Nat.le_of_ble_eq_true rfl) (Nat.le_of_ble_eq_true rfl) (Nat.le_of_ble_eq_true rfl) (pX5_numberC (m := 100) (by decide) (by omega) ht (by omega) (fun to tn va hn3 => ?_) (fun j3 a3 fr tn va hn3 hj1 hj2 hj3 => ?_))
          · simp only [hn3] at hQ0
            refine r_istore_n dX5_statement_143 (Nat.le_of_ble_eq_true rfl) ?_
            refine r_iload_n dX5_statement_144 rfl ?_
            refine r_iconst (-1) dX5_statement_145 (by decide) ?_
            refine r_icmp_ne 151 dX5_statement_146 (by decide) (fun c_ => absurd (rfl) c_) (fun _ => ?_)
            refine r_iconst 0 dX5_statement_149 (by decide) ?_
            exact r_zret (ty := .boolean) dX5_statement_150 rfl (rfl) (Nat.le_of_ble_eq_true rfl) (Nat.le_of_ble_eq_true rfl) (hQ0 _ _ _ _ rfl)
          · simp only [hn3] at hQ1
            refine r_istore_n dX5_statement_143 (Nat.le_of_ble_eq_true rfl) ?_
            refine r_iload_n dX5_statement_144 rfl ?_
            refine r_iconst (-1) dX5_statement_145 (by decide) ?_
            refine r_icmp_ne 151 dX5_statement_146 (by decide) (fun _ => ?_) (fun c_ => absurd c_ (nI_ne1 (by omega)))
            refine r_aload_n dX5_statement_151 rfl ?_
            refine r_iload_n dX5_statement_152 rfl ?_
            refine r_iload_n dX5_statement_153 rfl ?_
            refine r_iload_n dX5_statement_154 rfl ?_
            refine r_callV (as := [_, _, _]) okX5_newLooker bX5 rfl rfl q1740 dX5_statement_155 (Nat.le_of_ble_eq_true rfl) rfl (Nat.le_of_ble_eq_true rfl) (Nat.le_of_ble_eq_true rfl) (Nat.le_of_ble_eq_true rfl) (pX5_newLooker (by omega) ?_)
            refine r_pop dX5_statement_158 rfl ?_
            refine r_iconst 1 dX5_statement_159 (by decide) ?_
            exact r_zret (ty := .boolean) dX5_statement_160 rfl (rfl) (Nat.le_of_ble_eq_true rfl) (Nat.le_of_ble_eq_true rfl) (hQ1 _ _ _ _ _ _ _ _ _ _ _ _ _ rfl)
  simp only [if_neg g3] at hQ0 hQ1
  by_cases g4 : wdB tp kwI f e tn = true
  · simp only [if_pos g4] at hQ0 hQ1
    refine r_aload_n dX5_statement_0 rfl ?_
    refine r_ldcS 8 [true, true, false, true, true, true, false, true, false, true] rfl rfl q1782 dX5_statement_1 ?_
    refine r_callV (as := [_]) okX5_isWord bX5 rfl rfl q1783 dX5_statement_3 (Nat.le_of_ble_eq_true rfl) rfl (Nat.le_of_ble_eq_true rfl) (Nat.le_of_ble_eq_true rfl) (Nat.le_of_ble_eq_true rfl) (pX5_isWord (b := kwP) sk_8 cP hfe (by omega) ?_)
    refine r_if_eq 50 dX5_statement_6 (by decide) (fun _ => ?_) (fun c_ => absurd (b2i_0.mpr (by simpa using g1)) c_)
    refine r_aload_n dX5_statement_50 rfl ?_
    refine r_ldcS 9 [true, true, true, false, false, false, false, true, true, true] rfl rfl q1803 dX5_statement_51 ?_
    refine r_callV (as := [_]) okX5_isWord bX5 rfl rfl q1783 dX5_statement_53 (Nat.le_of_ble_eq_true rfl) rfl (Nat.le_of_ble_eq_true rfl) (Nat.le_of_ble_eq_true rfl) (Nat.le_of_ble_eq_true rfl) (pX5_isWord (b := kwC) sk_9 cC hfe (by omega) ?_)
    refine r_if_eq 83 dX5_statement_56 (by decide) (fun _ => ?_) (fun c_ => absurd (b2i_0.mpr (by simpa using g2)) c_)
    refine r_aload_n dX5_statement_83 rfl ?_
    refine r_ldcS 10 [true, true, true, false, false, true, true, false, true, true] rfl rfl q1804 dX5_statement_84 ?_
    refine r_callV (as := [_]) okX5_isWord bX5 rfl rfl q1783 dX5_statement_86 (Nat.le_of_ble_eq_true rfl) rfl (Nat.le_of_ble_eq_true rfl) (Nat.le_of_ble_eq_true rfl) (Nat.le_of_ble_eq_true rfl) (pX5_isWord (b := kwL) sk_10 cL hfe (by omega) ?_)
    refine r_if_eq 161 dX5_statement_89 (by decide) (fun _ => ?_) (fun c_ => absurd (b2i_0.mpr (by simpa using g3)) c_)
    refine r_aload_n dX5_statement_161 rfl ?_
    refine r_ldcS 11 [true, true, true, false, true, false, true, true, true, true, true] rfl rfl q1805 dX5_statement_162 ?_
    refine r_callV (as := [_]) okX5_isWord bX5 rfl rfl q1783 dX5_statement_164 (Nat.le_of_ble_eq_true rfl) rfl (Nat.le_of_ble_eq_true rfl) (Nat.le_of_ble_eq_true rfl) (Nat.le_of_ble_eq_true rfl) (pX5_isWord (b := kwI) sk_11 cI hfe (by omega) ?_)
    refine r_if_eq 174 dX5_statement_167 (by decide) (fun c_ => absurd c_ (b2i_n.mpr g4)) (fun _ => ?_)
    refine r_iconst 0 dX5_statement_170 (by decide) ?_
    refine r_goto 201 dX5_statement_171 (by decide) ?_
    refine r_istore_n dX5_statement_201 (Nat.le_of_ble_eq_true rfl) ?_
    refine r_iload_n dX5_statement_202 rfl ?_
    refine r_iconst (-1) dX5_statement_203 (by decide) ?_
    refine r_icmp_ne 209 dX5_statement_204 (by decide) (fun _ => ?_) (fun c_ => absurd c_ (by decide))
    refine r_aload_n dX5_statement_209 rfl ?_
    refine r_iconst 0 dX5_statement_210 (by decide) ?_
    refine r_aload_n dX5_statement_211 rfl ?_
    refine r_get bX5 1 (by decide) q1524 dX5_statement_212 rfl rfl ?_
    refine r_iconst 1 dX5_statement_215 (by decide) ?_
    refine r_isub dX5_statement_216 ?_
    refine r_callV (as := [_, _]) okX5_number bX5 rfl rfl q1799 dX5_statement_217 (Nat.le_of_ble_eq_true rfl) rfl (Nat.le_of_ble_eq_true rfl) (Nat.le_of_ble_eq_true rfl) (Nat.le_of_ble_eq_true rfl) (pX5_numberC (m := n) rfl (by omega) ht (by omega) (fun to tn va hn => ?_) (fun j a1 fr tn va hn hj1 hj2 hj3 => ?_))
    · simp only [hn] at hQ0
      refine r_istore_n dX5_statement_220 (Nat.le_of_ble_eq_true rfl) ?_
      refine r_iload_n dX5_statement_221 rfl ?_
      refine r_iconst (-1) dX5_statement_222 (by decide) ?_
      refine r_icmp_ne 230 dX5_statement_223 (by decide) (fun c_ => absurd (rfl) c_) (fun _ => ?_)
      refine r_iconst (-1) dX5_statement_226 (by decide) ?_
      refine r_goto 247 dX5_statement_227 (by decide) ?_
      refine r_istore_n dX5_statement_247 (Nat.le_of_ble_eq_true rfl) ?_
      refine r_iload_n dX5_statement_248 rfl ?_
      refine r_iconst (-1) dX5_statement_249 (by decide) ?_
      refine r_icmp_ne 255 dX5_statement_250 (by decide) (fun c_ => absurd (rfl) c_) (fun _ => ?_)
      refine r_iconst 0 dX5_statement_253 (by decide) ?_
      exact r_zret (ty := .boolean) dX5_statement_254 rfl (rfl) (Nat.le_of_ble_eq_true rfl) (Nat.le_of_ble_eq_true rfl) (hQ0 _ _ _ _ rfl)
    · simp only [hn] at hQ0 hQ1
      refine r_istore_n dX5_statement_220 (Nat.le_of_ble_eq_true rfl) ?_
      refine r_iload_n dX5_statement_221 rfl ?_
      refine r_iconst (-1) dX5_statement_222 (by decide) ?_
      refine r_icmp_ne 230 dX5_statement_223 (by decide) (fun _ => ?_) (fun c_ => absurd c_ (nI_ne1 (by omega)))
      refine r_aload_n dX5_statement_230 rfl ?_
      refine r_iconst 0 dX5_statement_231 (by decide) ?_
      refine r_iload_n dX5_statement_232 rfl ?_
      refine r_iconst 1 dX5_statement_233 (by decide) ?_
      refine r_icmp_ne 242 dX5_statement_234 (by decide) (fun _ => ?_) (fun c_ => absurd c_ (by decide))
      refine r_bipush 7 dX5_statement_242 (by decide) ?_
      refine r_callV (as := [_, _]) okX5_number bX5 rfl rfl q1799 dX5_statement_244 (Nat.le_of_ble_eq_true rfl) rfl (Nat.le_of_ble_eq_true rfl) (Nat.le_of_ble_eq_true rfl) (Nat.le_of_ble_eq_true rfl) (pX5_numberC (m := 8) (by decide) (by omega) ht (by omega) (fun to tn va hn2 => ?_) (fun j2 a2 fr tn va hn2 hj1 hj2 hj3 => ?_))
      · simp only [hn2] at hQ0
        refine r_istore_n dX5_statement_247 (Nat.le_of_ble_eq_true rfl) ?_
        refine r_iload_n dX5_statement_248 rfl ?_
        refine r_iconst (-1) dX5_statement_249 (by decide) ?_
        refine r_icmp_ne 255 dX5_statement_250 (by decide) (fun c_ => absurd (rfl) c_) (fun _ => ?_)
        refine r_iconst 0 dX5_statement_253 (by decide) ?_
        exact r_zret (ty := .boolean) dX5_statement_254 rfl (rfl) (Nat.le_of_ble_eq_true rfl) (Nat.le_of_ble_eq_true rfl) (hQ0 _ _ _ _ rfl)
      · simp only [hn2] at hQ1
        refine r_istore_n dX5_statement_247 (Nat.le_of_ble_eq_true rfl) ?_
        refine r_iload_n dX5_statement_248 rfl ?_
        refine r_iconst (-1) dX5_statement_249 (by decide) ?_
        refine r_icmp_ne 255 dX5_statement_250 (by decide) (fun _ => ?_) (fun c_ => absurd c_ (nI_ne1 (by omega)))
        refine r_iload_n dX5_statement_255 rfl ?_
        refine r_if_ne 274 dX5_statement_256 (by decide) (fun c_ => absurd (rfl) c_) (fun _ => ?_)
        refine r_aload_n dX5_statement_259 rfl ?_
        refine r_get bX5 5 (by decide) q1528 dX5_statement_260 rfl rfl ?_
        refine r_iload_n dX5_statement_263 rfl ?_
        refine r_dup2 dX5_statement_264 rfl rfl ?_
        refine r_ialdN dX5_statement_265 rfl (by omega) (Nat.le_of_ble_eq_true rfl) ?_
        refine r_iconst 1 dX5_statement_266 (by decide) ?_
        refine r_iload_n dX5_statement_267 rfl ?_
        refine r_ishl dX5_statement_268 ?_
        refine r_ior dX5_statement_269 ?_
        refine r_iastN dX5_statement_270 rfl (by omega) (Nat.le_of_ble_eq_true rfl) ?_
        refine r_goto 296 dX5_statement_271 (by decide) ?_
        refine r_iconst 1 dX5_statement_296 (by decide) ?_
        exact r_zret (ty := .boolean) dX5_statement_297 rfl (rfl) (Nat.le_of_ble_eq_true rfl) (Nat.le_of_ble_eq_true rfl) (hQ1 _ _ _ _ _ _ _ _ _ _ _ _ _ rfl)
  simp only [if_neg g4] at hQ0 hQ1
  by_cases g5 : wdB tp kwO f e tn = true
  · simp only [if_pos g5] at hQ0 hQ1
    refine r_aload_n dX5_statement_0 rfl ?_
    refine r_ldcS 8 [true, true, false, true, true, true, false, true, false, true] rfl rfl q1782 dX5_statement_1 ?_
    refine r_callV (as := [_]) okX5_isWord bX5 rfl rfl q1783 dX5_statement_3 (Nat.le_of_ble_eq_true rfl) rfl (Nat.le_of_ble_eq_true rfl) (Nat.le_of_ble_eq_true rfl) (Nat.le_of_ble_eq_true rfl) (pX5_isWord (b := kwP) sk_8 cP hfe (by omega) ?_)
    refine r_if_eq 50 dX5_statement_6 (by decide) (fun _ => ?_) (fun c_ => absurd (b2i_0.mpr (by simpa using g1)) c_)
    refine r_aload_n dX5_statement_50 rfl ?_
    refine r_ldcS 9 [true, true, true, false, false, false, false, true, true, true] rfl rfl q1803 dX5_statement_51 ?_
    refine r_callV (as := [_]) okX5_isWord bX5 rfl rfl q1783 dX5_statement_53 (Nat.le_of_ble_eq_true rfl) rfl (Nat.le_of_ble_eq_true rfl) (Nat.le_of_ble_eq_true rfl) (Nat.le_of_ble_eq_true rfl) (pX5_isWord (b := kwC) sk_9 cC hfe (by omega) ?_)
    refine r_if_eq 83 dX5_statement_56 (by decide) (fun _ => ?_) (fun c_ => absurd (b2i_0.mpr (by simpa using g2)) c_)
    refine r_aload_n dX5_statement_83 rfl ?_
    refine r_ldcS 10 [true, true, true, false, false, true, true, false, true, true] rfl rfl q1804 dX5_statement_84 ?_
    refine r_callV (as := [_]) okX5_isWord bX5 rfl rfl q1783 dX5_statement_86 (Nat.le_of_ble_eq_true rfl) rfl (Nat.le_of_ble_eq_true rfl) (Nat.le_of_ble_eq_true rfl) (Nat.le_of_ble_eq_true rfl) (pX5_isWord (b := kwL) sk_10 cL hfe (by omega) ?_)
    refine r_if_eq 161 dX5_statement_89 (by decide) (fun _ => ?_) (fun c_ => absurd (b2i_0.mpr (by simpa using g3)) c_)
    refine r_aload_n dX5_statement_161 rfl ?_
    refine r_ldcS 11 [true, true, true, false, true, false, true, true, true, true, true] rfl rfl q1805 dX5_statement_162 ?_
    refine r_callV (as := [_]) okX5_isWord bX5 rfl rfl q1783 dX5_statement_164 (Nat.le_of_ble_eq_true rfl) rfl (Nat.le_of_ble_eq_true rfl) (Nat.le_of_ble_eq_true rfl) (Nat.le_of_ble_eq_true rfl) (pX5_isWord (b := kwI) sk_11 cI hfe (by omega) ?_)
    refine r_if_eq 174 dX5_statement_167 (by decide) (fun _ => ?_) (fun c_ => absurd (b2i_0.mpr (by simpa using g4)) c_)
    refine r_aload_n dX5_statement_174 rfl ?_
    refine r_ldcS 12 [true, true, true, true, false, false, false, true, false, false] rfl rfl q1806 dX5_statement_175 ?_
    refine r_callV (as := [_]) okX5_isWord bX5 rfl rfl q1783 dX5_statement_177 (Nat.le_of_ble_eq_true rfl) rfl (Nat.le_of_ble_eq_true rfl) (Nat.le_of_ble_eq_true rfl) (Nat.le_of_ble_eq_true rfl) (pX5_isWord (b := kwO) sk_12 cO hfe (by omega) ?_)
    refine r_if_eq 187 dX5_statement_180 (by decide) (fun c_ => absurd c_ (b2i_n.mpr g5)) (fun _ => ?_)
    refine r_iconst 1 dX5_statement_183 (by decide) ?_
    refine r_goto 201 dX5_statement_184 (by decide) ?_
    refine r_istore_n dX5_statement_201 (Nat.le_of_ble_eq_true rfl) ?_
    refine r_iload_n dX5_statement_202 rfl ?_
    refine r_iconst (-1) dX5_statement_203 (by decide) ?_
    refine r_icmp_ne 209 dX5_statement_204 (by decide) (fun _ => ?_) (fun c_ => absurd c_ (by decide))
    refine r_aload_n dX5_statement_209 rfl ?_
    refine r_iconst 0 dX5_statement_210 (by decide) ?_
    refine r_aload_n dX5_statement_211 rfl ?_
    refine r_get bX5 1 (by decide) q1524 dX5_statement_212 rfl rfl ?_
    refine r_iconst 1 dX5_statement_215 (by decide) ?_
    refine r_isub dX5_statement_216 ?_
    refine r_callV (as := [_, _]) okX5_number bX5 rfl rfl q1799 dX5_statement_217 (Nat.le_of_ble_eq_true rfl) rfl (Nat.le_of_ble_eq_true rfl) (Nat.le_of_ble_eq_true rfl) (Nat.le_of_ble_eq_true rfl) (pX5_numberC (m := n) rfl (by omega) ht (by omega) (fun to tn va hn => ?_) (fun j a1 fr tn va hn hj1 hj2 hj3 => ?_))
    · simp only [hn] at hQ0
      refine r_istore_n dX5_statement_220 (Nat.le_of_ble_eq_true rfl) ?_
      refine r_iload_n dX5_statement_221 rfl ?_
      refine r_iconst (-1) dX5_statement_222 (by decide) ?_
      refine r_icmp_ne 230 dX5_statement_223 (by decide) (fun c_ => absurd (rfl) c_) (fun _ => ?_)
      refine r_iconst (-1) dX5_statement_226 (by decide) ?_
      refine r_goto 247 dX5_statement_227 (by decide) ?_
      refine r_istore_n dX5_statement_247 (Nat.le_of_ble_eq_true rfl) ?_
      refine r_iload_n dX5_statement_248 rfl ?_
      refine r_iconst (-1) dX5_statement_249 (by decide) ?_
      refine r_icmp_ne 255 dX5_statement_250 (by decide) (fun c_ => absurd (rfl) c_) (fun _ => ?_)
      refine r_iconst 0 dX5_statement_253 (by decide) ?_
      exact r_zret (ty := .boolean) dX5_statement_254 rfl (rfl) (Nat.le_of_ble_eq_true rfl) (Nat.le_of_ble_eq_true rfl) (hQ0 _ _ _ _ rfl)
    · simp only [hn] at hQ0 hQ1
      refine r_istore_n dX5_statement_220 (Nat.le_of_ble_eq_true rfl) ?_
      refine r_iload_n dX5_statement_221 rfl ?_
      refine r_iconst (-1) dX5_statement_222 (by decide) ?_
      refine r_icmp_ne 230 dX5_statement_223 (by decide) (fun _ => ?_) (fun c_ => absurd c_ (nI_ne1 (by omega)))
      refine r_aload_n dX5_statement_230 rfl ?_
      refine r_iconst 0 dX5_statement_231 (by decide) ?_
      refine r_iload_n dX5_statement_232 rfl ?_
      refine r_iconst 1 dX5_statement_233 (by decide) ?_
      refine r_icmp_ne 242 dX5_statement_234 (by decide) (fun c_ => absurd (rfl) c_) (fun _ => ?_)
      refine r_bipush 12 dX5_statement_237 (by decide) ?_
      refine r_goto 244 dX5_statement_239 (by decide) ?_
      refine r_callV (as := [_, _]) okX5_number bX5 rfl rfl q1799 dX5_statement_244 (Nat.le_of_ble_eq_true rfl) rfl (Nat.le_of_ble_eq_true rfl) (Nat.le_of_ble_eq_true rfl) (Nat.le_of_ble_eq_true rfl) (pX5_numberC (m := 13) (by decide) (by omega) ht (by omega) (fun to tn va hn2 => ?_) (fun j2 a2 fr tn va hn2 hj1 hj2 hj3 => ?_))
      · simp only [hn2] at hQ0
        refine r_istore_n dX5_statement_247 (Nat.le_of_ble_eq_true rfl) ?_
        refine r_iload_n dX5_statement_248 rfl ?_
        refine r_iconst (-1) dX5_statement_249 (by decide) ?_
        refine r_icmp_ne 255 dX5_statement_250 (by decide) (fun c_ => absurd (rfl) c_) (fun _ => ?_)
        refine r_iconst 0 dX5_statement_253 (by decide) ?_
        exact r_zret (ty := .boolean) dX5_statement_254 rfl (rfl) (Nat.le_of_ble_eq_true rfl) (Nat.le_of_ble_eq_true rfl) (hQ0 _ _ _ _ rfl)
      · simp only [hn2] at hQ1
        refine r_istore_n dX5_statement_247 (Nat.le_of_ble_eq_true rfl) ?_
        refine r_iload_n dX5_statement_248 rfl ?_
        refine r_iconst (-1) dX5_statement_249 (by decide) ?_
        refine r_icmp_ne 255 dX5_statement_250 (by decide) (fun _ => ?_) (fun c_ => absurd c_ (nI_ne1 (by omega)))
        refine r_iload_n dX5_statement_255 rfl ?_
        refine r_if_ne 274 dX5_statement_256 (by decide) (fun _ => ?_) (fun c_ => absurd c_ (by decide))
        refine r_iload_n dX5_statement_274 rfl ?_
        refine r_iconst 1 dX5_statement_275 (by decide) ?_
        refine r_icmp_ne 289 dX5_statement_276 (by decide) (fun c_ => absurd (rfl) c_) (fun _ => ?_)
        refine r_aload_n dX5_statement_279 rfl ?_
        refine r_get bX5 6 (by decide) q1529 dX5_statement_280 rfl rfl ?_
        refine r_iload_n dX5_statement_283 rfl ?_
        refine r_iload_n dX5_statement_284 rfl ?_
        refine r_iastN dX5_statement_285 rfl (by omega) (Nat.le_of_ble_eq_true rfl) ?_
        refine r_goto 296 dX5_statement_286 (by decide) ?_
        refine r_iconst 1 dX5_statement_296 (by decide) ?_
        exact r_zret (ty := .boolean) dX5_statement_297 rfl (rfl) (Nat.le_of_ble_eq_true rfl) (Nat.le_of_ble_eq_true rfl) (hQ1 _ _ _ _ _ _ _ _ _ _ _ _ _ rfl)
  simp only [if_neg g5] at hQ0 hQ1
  by_cases g6 : wdB tp kwS f e tn = true
  · simp only [if_pos g6] at hQ0 hQ1
    refine r_aload_n dX5_statement_0 rfl ?_
    refine r_ldcS 8 [true, true, false, true, true, true, false, true, false, true] rfl rfl q1782 dX5_statement_1 ?_
    refine r_callV (as := [_]) okX5_isWord bX5 rfl rfl q1783 dX5_statement_3 (Nat.le_of_ble_eq_true rfl) rfl (Nat.le_of_ble_eq_true rfl) (Nat.le_of_ble_eq_true rfl) (Nat.le_of_ble_eq_true rfl) (pX5_isWord (b := kwP) sk_8 cP hfe (by omega) ?_)
    refine r_if_eq 50 dX5_statement_6 (by decide) (fun _ => ?_) (fun c_ => absurd (b2i_0.mpr (by simpa using g1)) c_)
    refine r_aload_n dX5_statement_50 rfl ?_
    refine r_ldcS 9 [true, true, true, false, false, false, false, true, true, true] rfl rfl q1803 dX5_statement_51 ?_
    refine r_callV (as := [_]) okX5_isWord bX5 rfl rfl q1783 dX5_statement_53 (Nat.le_of_ble_eq_true rfl) rfl (Nat.le_of_ble_eq_true rfl) (Nat.le_of_ble_eq_true rfl) (Nat.le_of_ble_eq_true rfl) (pX5_isWord (b := kwC) sk_9 cC hfe (by omega) ?_)
    refine r_if_eq 83 dX5_statement_56 (by decide) (fun _ => ?_) (fun c_ => absurd (b2i_0.mpr (by simpa using g2)) c_)
    refine r_aload_n dX5_statement_83 rfl ?_
    refine r_ldcS 10 [true, true, true, false, false, true, true, false, true, true] rfl rfl q1804 dX5_statement_84 ?_
    refine r_callV (as := [_]) okX5_isWord bX5 rfl rfl q1783 dX5_statement_86 (Nat.le_of_ble_eq_true rfl) rfl (Nat.le_of_ble_eq_true rfl) (Nat.le_of_ble_eq_true rfl) (Nat.le_of_ble_eq_true rfl) (pX5_isWord (b := kwL) sk_10 cL hfe (by omega) ?_)
    refine r_if_eq 161 dX5_statement_89 (by decide) (fun _ => ?_) (fun c_ => absurd (b2i_0.mpr (by simpa using g3)) c_)
    refine r_aload_n dX5_statement_161 rfl ?_
    refine r_ldcS 11 [true, true, true, false, true, false, true, true, true, true, true] rfl rfl q1805 dX5_statement_162 ?_
    refine r_callV (as := [_]) okX5_isWord bX5 rfl rfl q1783 dX5_statement_164 (Nat.le_of_ble_eq_true rfl) rfl (Nat.le_of_ble_eq_true rfl) (Nat.le_of_ble_eq_true rfl) (Nat.le_of_ble_eq_true rfl) (pX5_isWord (b := kwI) sk_11 cI hfe (by omega) ?_)
    refine r_if_eq 174 dX5_statement_167 (by decide) (fun _ => ?_) (fun c_ => absurd (b2i_0.mpr (by simpa using g4)) c_)
    refine r_aload_n dX5_statement_174 rfl ?_
    refine r_ldcS 12 [true, true, true, true, false, false, false, true, false, false] rfl rfl q1806 dX5_statement_175 ?_
    refine r_callV (as := [_]) okX5_isWord bX5 rfl rfl q1783 dX5_statement_177 (Nat.le_of_ble_eq_true rfl) rfl (Nat.le_of_ble_eq_true rfl) (Nat.le_of_ble_eq_true rfl) (Nat.le_of_ble_eq_true rfl) (pX5_isWord (b := kwO) sk_12 cO hfe (by omega) ?_)
    refine r_if_eq 187 dX5_statement_180 (by decide) (fun _ => ?_) (fun c_ => absurd (b2i_0.mpr (by simpa using g5)) c_)
    refine r_aload_n dX5_statement_187 rfl ?_
    refine r_ldcS 13 [true, true, true, true, false, true, true, false, true, true] rfl rfl q1807 dX5_statement_188 ?_
    refine r_callV (as := [_]) okX5_isWord bX5 rfl rfl q1783 dX5_statement_190 (Nat.le_of_ble_eq_true rfl) rfl (Nat.le_of_ble_eq_true rfl) (Nat.le_of_ble_eq_true rfl) (Nat.le_of_ble_eq_true rfl) (pX5_isWord (b := kwS) sk_13 cS hfe (by omega) ?_)
    refine r_if_eq 200 dX5_statement_193 (by decide) (fun c_ => absurd c_ (b2i_n.mpr g6)) (fun _ => ?_)
    refine r_iconst 2 dX5_statement_196 (by decide) ?_
    refine r_goto 201 dX5_statement_197 (by decide) ?_
    refine r_istore_n dX5_statement_201 (Nat.le_of_ble_eq_true rfl) ?_
    refine r_iload_n dX5_statement_202 rfl ?_
    refine r_iconst (-1) dX5_statement_203 (by decide) ?_
    refine r_icmp_ne 209 dX5_statement_204 (by decide) (fun _ => ?_) (fun c_ => absurd c_ (by decide))
    refine r_aload_n dX5_statement_209 rfl ?_
    refine r_iconst 0 dX5_statement_210 (by decide) ?_
    refine r_aload_n dX5_statement_211 rfl ?_
    refine r_get bX5 1 (by decide) q1524 dX5_statement_212 rfl rfl ?_
    refine r_iconst 1 dX5_statement_215 (by decide) ?_
    refine r_isub dX5_statement_216 ?_
    refine r_callV (as := [_, _]) okX5_number bX5 rfl rfl q1799 dX5_statement_217 (Nat.le_of_ble_eq_true rfl) rfl (Nat.le_of_ble_eq_true rfl) (Nat.le_of_ble_eq_true rfl) (Nat.le_of_ble_eq_true rfl) (pX5_numberC (m := n) rfl (by omega) ht (by omega) (fun to tn va hn => ?_) (fun j a1 fr tn va hn hj1 hj2 hj3 => ?_))
    · simp only [hn] at hQ0
      refine r_istore_n dX5_statement_220 (Nat.le_of_ble_eq_true rfl) ?_
      refine r_iload_n dX5_statement_221 rfl ?_
      refine r_iconst (-1) dX5_statement_222 (by decide) ?_
      refine r_icmp_ne 230 dX5_statement_223 (by decide) (fun c_ => absurd (rfl) c_) (fun _ => ?_)
      refine r_iconst (-1) dX5_statement_226 (by decide) ?_
      refine r_goto 247 dX5_statement_227 (by decide) ?_
      refine r_istore_n dX5_statement_247 (Nat.le_of_ble_eq_true rfl) ?_
      refine r_iload_n dX5_statement_248 rfl ?_
      refine r_iconst (-1) dX5_statement_249 (by decide) ?_
      refine r_icmp_ne 255 dX5_statement_250 (by decide) (fun c_ => absurd (rfl) c_) (fun _ => ?_)
      refine r_iconst 0 dX5_statement_253 (by decide) ?_
      exact r_zret (ty := .boolean) dX5_statement_254 rfl (rfl) (Nat.le_of_ble_eq_true rfl) (Nat.le_of_ble_eq_true rfl) (hQ0 _ _ _ _ rfl)
    · simp only [hn] at hQ0 hQ1
      refine r_istore_n dX5_statement_220 (Nat.le_of_ble_eq_true rfl) ?_
      refine r_iload_n dX5_statement_221 rfl ?_
      refine r_iconst (-1) dX5_statement_222 (by decide) ?_
      refine r_icmp_ne 230 dX5_statement_223 (by decide) (fun _ => ?_) (fun c_ => absurd c_ (nI_ne1 (by omega)))
      refine r_aload_n dX5_statement_230 rfl ?_
      refine r_iconst 0 dX5_statement_231 (by decide) ?_
      refine r_iload_n dX5_statement_232 rfl ?_
      refine r_iconst 1 dX5_statement_233 (by decide) ?_
      refine r_icmp_ne 242 dX5_statement_234 (by decide) (fun _ => ?_) (fun c_ => absurd c_ (by decide))
      refine r_bipush 7 dX5_statement_242 (by decide) ?_
      refine r_callV (as := [_, _]) okX5_number bX5 rfl rfl q1799 dX5_statement_244 (Nat.le_of_ble_eq_true rfl) rfl (Nat.le_of_ble_eq_true rfl) (Nat.le_of_ble_eq_true rfl) (Nat.le_of_ble_eq_true rfl) (pX5_numberC (m := 8) (by decide) (by omega) ht (by omega) (fun to tn va hn2 => ?_) (fun j2 a2 fr tn va hn2 hj1 hj2 hj3 => ?_))
      · simp only [hn2] at hQ0
        refine r_istore_n dX5_statement_247 (Nat.le_of_ble_eq_true rfl) ?_
        refine r_iload_n dX5_statement_248 rfl ?_
        refine r_iconst (-1) dX5_statement_249 (by decide) ?_
        refine r_icmp_ne 255 dX5_statement_250 (by decide) (fun c_ => absurd (rfl) c_) (fun _ => ?_)
        refine r_iconst 0 dX5_statement_253 (by decide) ?_
        exact r_zret (ty := .boolean) dX5_statement_254 rfl (rfl) (Nat.le_of_ble_eq_true rfl) (Nat.le_of_ble_eq_true rfl) (hQ0 _ _ _ _ rfl)
      · simp only [hn2] at hQ1
        refine r_istore_n dX5_statement_247 (Nat.le_of_ble_eq_true rfl) ?_
        refine r_iload_n dX5_statement_248 rfl ?_
        refine r_iconst (-1) dX5_statement_249 (by decide) ?_
        refine r_icmp_ne 255 dX5_statement_250 (by decide) (fun _ => ?_) (fun c_ => absurd c_ (nI_ne1 (by omega)))
        refine r_iload_n dX5_statement_255 rfl ?_
        refine r_if_ne 274 dX5_statement_256 (by decide) (fun _ => ?_) (fun c_ => absurd c_ (by decide))
        refine r_iload_n dX5_statement_274 rfl ?_
        refine r_iconst 1 dX5_statement_275 (by decide) ?_
        refine r_icmp_ne 289 dX5_statement_276 (by decide) (fun _ => ?_) (fun c_ => absurd c_ (by decide))
        refine r_aload_n dX5_statement_289 rfl ?_
        refine r_get bX5 7 (by decide) q1530 dX5_statement_290 rfl rfl ?_
        refine r_iload_n dX5_statement_293 rfl ?_
        refine r_iload_n dX5_statement_294 rfl ?_
        refine r_iastN dX5_statement_295 rfl (by omega) (Nat.le_of_ble_eq_true rfl) ?_
        refine r_iconst 1 dX5_statement_296 (by decide) ?_
        exact r_zret (ty := .boolean) dX5_statement_297 rfl (rfl) (Nat.le_of_ble_eq_true rfl) (Nat.le_of_ble_eq_true rfl) (hQ1 _ _ _ _ _ _ _ _ _ _ _ _ _ rfl)
  simp only [if_neg g6] at hQ0 hQ1
  refine r_aload_n dX5_statement_0 rfl ?_
  refine r_ldcS 8 [true, true, false, true, true, true, false, true, false, true] rfl rfl q1782 dX5_statement_1 ?_
  refine r_callV (as := [_]) okX5_isWord bX5 rfl rfl q1783 dX5_statement_3 (Nat.le_of_ble_eq_true rfl) rfl (Nat.le_of_ble_eq_true rfl) (Nat.le_of_ble_eq_true rfl) (Nat.le_of_ble_eq_true rfl) (pX5_isWord (b := kwP) sk_8 cP hfe (by omega) ?_)
  refine r_if_eq 50 dX5_statement_6 (by decide) (fun _ => ?_) (fun c_ => absurd (b2i_0.mpr (by simpa using g1)) c_)
  refine r_aload_n dX5_statement_50 rfl ?_
  refine r_ldcS 9 [true, true, true, false, false, false, false, true, true, true] rfl rfl q1803 dX5_statement_51 ?_
  refine r_callV (as := [_]) okX5_isWord bX5 rfl rfl q1783 dX5_statement_53 (Nat.le_of_ble_eq_true rfl) rfl (Nat.le_of_ble_eq_true rfl) (Nat.le_of_ble_eq_true rfl) (Nat.le_of_ble_eq_true rfl) (pX5_isWord (b := kwC) sk_9 cC hfe (by omega) ?_)
  refine r_if_eq 83 dX5_statement_56 (by decide) (fun _ => ?_) (fun c_ => absurd (b2i_0.mpr (by simpa using g2)) c_)
  refine r_aload_n dX5_statement_83 rfl ?_
  refine r_ldcS 10 [true, true, true, false, false, true, true, false, true, true] rfl rfl q1804 dX5_statement_84 ?_
  refine r_callV (as := [_]) okX5_isWord bX5 rfl rfl q1783 dX5_statement_86 (Nat.le_of_ble_eq_true rfl) rfl (Nat.le_of_ble_eq_true rfl) (Nat.le_of_ble_eq_true rfl) (Nat.le_of_ble_eq_true rfl) (pX5_isWord (b := kwL) sk_10 cL hfe (by omega) ?_)
  refine r_if_eq 161 dX5_statement_89 (by decide) (fun _ => ?_) (fun c_ => absurd (b2i_0.mpr (by simpa using g3)) c_)
  refine r_aload_n dX5_statement_161 rfl ?_
  refine r_ldcS 11 [true, true, true, false, true, false, true, true, true, true, true] rfl rfl q1805 dX5_statement_162 ?_
  refine r_callV (as := [_]) okX5_isWord bX5 rfl rfl q1783 dX5_statement_164 (Nat.le_of_ble_eq_true rfl) rfl (Nat.le_of_ble_eq_true rfl) (Nat.le_of_ble_eq_true rfl) (Nat.le_of_ble_eq_true rfl) (pX5_isWord (b := kwI) sk_11 cI hfe (by omega) ?_)
  refine r_if_eq 174 dX5_statement_167 (by decide) (fun _ => ?_) (fun c_ => absurd (b2i_0.mpr (by simpa using g4)) c_)
  refine r_aload_n dX5_statement_174 rfl ?_
  refine r_ldcS 12 [true, true, true, true, false, false, false, true, false, false] rfl rfl q1806 dX5_statement_175 ?_
  refine r_callV (as := [_]) okX5_isWord bX5 rfl rfl q1783 dX5_statement_177 (Nat.le_of_ble_eq_true rfl) rfl (Nat.le_of_ble_eq_true rfl) (Nat.le_of_ble_eq_true rfl) (Nat.le_of_ble_eq_true rfl) (pX5_isWord (b := kwO) sk_12 cO hfe (by omega) ?_)
  refine r_if_eq 187 dX5_statement_180 (by decide) (fun _ => ?_) (fun c_ => absurd (b2i_0.mpr (by simpa using g5)) c_)
  refine r_aload_n dX5_statement_187 rfl ?_
  refine r_ldcS 13 [true, true, true, true, false, true, true, false, true, true] rfl rfl q1807 dX5_statement_188 ?_
  refine r_callV (as := [_]) okX5_isWord bX5 rfl rfl q1783 dX5_statement_190 (Nat.le_of_ble_eq_true rfl) rfl (Nat.le_of_ble_eq_true rfl) (Nat.le_of_ble_eq_true rfl) (Nat.le_of_ble_eq_true rfl) (pX5_isWord (b := kwS) sk_13 cS hfe (by omega) ?_)
  refine r_if_eq 200 dX5_statement_193 (by decide) (fun _ => ?_) (fun c_ => absurd (b2i_0.mpr (by simpa using g6)) c_)
  refine r_iconst (-1) dX5_statement_200 (by decide) ?_
  refine r_istore_n dX5_statement_201 (Nat.le_of_ble_eq_true rfl) ?_
  refine r_iload_n dX5_statement_202 rfl ?_
  refine r_iconst (-1) dX5_statement_203 (by decide) ?_
  refine r_icmp_ne 209 dX5_statement_204 (by decide) (fun c_ => absurd (rfl) c_) (fun _ => ?_)
  refine r_iconst 0 dX5_statement_207 (by decide) ?_
  exact r_zret (ty := .boolean) dX5_statement_208 rfl (rfl) (Nat.le_of_ble_eq_true rfl) (Nat.le_of_ble_eq_true rfl) (hQ0 _ _ _ _ rfl)
end MM
