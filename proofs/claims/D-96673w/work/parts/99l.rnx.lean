set_option maxRecDepth 100000
/-! the reader: isIn, next -/
abbrev rdC (t a : Nat) (fr : Int32) (wd : Value) (nu : Int32) : AC := .inr (13, [.ref 233, .int (nI t), .ref 11, .int (nI a), .int fr, wd, .int nu])
abbrev stC (k : Nat) (x y : Int32) : AC := .inr (15, [.ref (8 * (k + 1) + 3), .int 0, .int x, .int y])
abbrev txC (tp : Nat → Int32) (f n : Nat) : AC := .inl (.byte, n, .inl (fun j => tp (f + j)))
theorem sk_spec {tp : Nat → Int32} {c : Int32 → Bool} : ∀ (q i : Nat), (∀ j, i ≤ j → j < skG tp c q i → c (tp j) = true) ∧ (skG tp c q i = i + q ∨ ¬ c (tp (skG tp c q i)) = true)
  | 0, i => ⟨fun j h1 h2 => absurd h2 (by show ¬ j < i; omega), Or.inl rfl⟩
  | q + 1, i => by
    by_cases h : c (tp i) = true
    · have e : skG tp c (q + 1) i = skG tp c q (i + 1) := by rw [skG, if_pos h]
      rw [e]
      obtain ⟨h1, h2⟩ := sk_spec q (i + 1)
      refine ⟨fun j hj1 hj2 => ?_, ?_⟩
      · by_cases hj : j = i
        · rw [hj]; exact h
        · exact h1 j (by omega) hj2
      · rcases h2 with h2 | h2
        · exact Or.inl (by omega)
        · exact Or.inr h2
    · have e : skG tp c (q + 1) i = i := by rw [skG, if_neg h]
      rw [e]
      exact ⟨fun j h1 h2 => absurd h2 (by omega), Or.inr h⟩
theorem skT_spec {tp : Nat → Int32} {c : Int32 → Bool} {t i : Nat} (hi : i ≤ t) : (∀ j, i ≤ j → j < skT tp c t i → c (tp j) = true) ∧ (skT tp c t i = t ∨ ¬ c (tp (skT tp c t i)) = true) := by
  obtain ⟨h1, h2⟩ := sk_spec (tp := tp) (c := c) (t - i) i
  refine ⟨h1, ?_⟩
  rcases h2 with h2 | h2
  · exact Or.inl (by unfold skT; omega)
  · exact Or.inr h2
/-- what the reader holds behind next(), the token from place a on -/
def TkV (tp : Nat → Int32) (t a p : Nat) (E : List AC) (a' : Nat) (wd : Value) (nu : Int32) : Prop :=
  ((nxF tp t a 0).2.2.1 = 101 ∧ wd = .null ∧ nu = -1) ∨
  ((nxF tp t a 0).2.2.1 = 48 ∧ a' = (nxF tp t a 0).2.1 ∧ wd = .null ∧ nu = (nxF tp t a 0).2.2.2) ∨
  ((nxF tp t a 0).2.2.1 = 59 ∧ a' = (nxF tp t a 0).2.1 ∧ wd = .ref (8 * (1 + 1) + 4) ∧ nu = -1) ∨
  ((nxF tp t a 0).2.2.1 = 120 ∧ wd = .null ∧ (nu = -1 ∨ nu = 100)) ∨
  ((nxF tp t a 0).2.2.1 = 119 ∧ a' = (nxF tp t a 0).2.1 ∧ nu = -1 ∧ ∃ E0 E1 k, p + 1 + E0.length = k ∧ E = E0 ++ (stC k 0 0 :: txC tp (nxF tp t a 0).1 ((nxF tp t a 0).2.1 - (nxF tp t a 0).1) :: E1) ∧ wd = .ref (8 * (k + 0) + 3))
/-- what lay there lies there -/
def Ext (E E' : List AC) : Prop := ∀ (j c : Nat) (fs : List Value), c < 15 → E[j]? = some (.inr (c, fs)) → E'[j]? = some (.inr (c, fs))
theorem Ext.refl (E : List AC) : Ext E E := fun _ _ _ _ h => h
theorem Ext.trans {E F G : List AC} (h1 : Ext E F) (h2 : Ext F G) : Ext E G := fun j c fs hc h => h2 j c fs hc (h1 j c fs hc h)
theorem Ext.app (E F : List AC) : Ext E (E ++ F) := fun j c fs _ h => by
  rw [List.getElem?_append_left (List.getElem?_eq_some_iff.mp h).1]
  exact h
theorem Ext.str {E0 R : List AC} {k : Nat} {x y u w : Int32} : Ext (E0 ++ (stC k x y :: R)) (E0 ++ (stC k u w :: R)) := by
  intro j c fs hc h
  by_cases g : j < E0.length
  · rw [List.getElem?_append_left g] at h ⊢
    exact h
  · rw [List.getElem?_append_right (by omega)] at h ⊢
    cases e : j - E0.length with
    | zero =>
      rw [e] at h
      have h := Option.some.inj h
      have h : (15, _) = (c, fs) := Sum.inr.inj h
      have := (Prod.mk.inj h).1
      omega
    | succ q =>
      rw [e] at h
      exact h
theorem tk_app {tp : Nat → Int32} {t a p : Nat} {E F : List AC} {a' : Nat} {wd : Value} {nu : Int32} (h : TkV tp t a p E a' wd nu) : TkV tp t a p (E ++ F) a' wd nu := by
  rcases h with z | z | z | z | z
  · exact Or.inl z
  · exact Or.inr (Or.inl z)
  · exact Or.inr (Or.inr (Or.inl z))
  · exact Or.inr (Or.inr (Or.inr (Or.inl z)))
  · obtain ⟨e0, e1, e2, E0, E1, k, hk, rfl, e3⟩ := z
    exact Or.inr (Or.inr (Or.inr (Or.inr ⟨e0, e1, e2, E0, E1 ++ F, k, hk, by simp, e3⟩)))
section RD
variable {Q : Option Value → AHp → Prop} {r0 x1 h2 P E W : List AC} {t a : Nat} {fr nu : Int32} {wd : Value} {tp : Nat → Int32}
theorem pX13_isIn {x y : Int32} (hT : x1[29]? = some (.inl (.int, 250, .inl tp))) (ht : t ≤ 250) (ha : a ≤ t) (hQ : Q (some (.int (b2i (decide (a < t) && inB (tp a) x y)))) (r0, x1, h2, rdC t a fr wd nu :: W)) : AMet mX13_isIn 1 0 0 [.ref 3, .int x, .int y] (r0, x1, h2, rdC t a fr wd nu :: W) Q := by
  refine AMet.ofRch rfl rfl (Nat.le_of_ble_eq_true rfl) ?_
  by_cases g : a < t
  · rw [show decide (a < t) = true by simpa using g, Bool.true_and] at hQ
    refine r_aload_n dX13_isIn_0 rfl ?_
    refine r_get bX13 3 (by decide) q1014 dX13_isIn_1 rfl rfl ?_
    refine r_aload_n dX13_isIn_4 rfl ?_
    refine r_get bX13 1 (by decide) q1011 dX13_isIn_5 rfl rfl ?_
    refine r_icmp_ge 41 dX13_isIn_8 (by decide) (fun c_ => absurd c_ (geF g (by omega))) (fun _ => ?_)
    refine r_aload_n dX13_isIn_11 rfl ?_
    refine r_get bX13 0 (by decide) q1010 dX13_isIn_12 rfl rfl ?_
    refine r_aload_n dX13_isIn_15 rfl ?_
    refine r_get bX13 3 (by decide) q1014 dX13_isIn_16 rfl rfl ?_
    refine r_ialdN dX13_isIn_19 hT (by omega) (Nat.le_of_ble_eq_true rfl) ?_
    refine r_iload_n dX13_isIn_20 rfl ?_
    refine r_icmp_lt 41 dX13_isIn_21 (by decide) (fun c_21 => ?_) (fun c_21 => ?_)
    · refine r_iconst 0 dX13_isIn_41 (by decide) ?_
      exact r_zret (ty := .boolean) dX13_isIn_42 rfl (rfl) (Nat.le_of_ble_eq_true rfl) (Nat.le_of_ble_eq_true rfl) (qi (by first | (have q1 := Int32.not_le.mpr c_21; simp [b2i, inB, q1]) | (have q1 := Int32.not_le.mpr c_34; simp [b2i, inB, q1]) | (have q1 := Int32.not_lt.mp c_21; have q2 := Int32.not_lt.mp c_34; simp [b2i, inB, q1, q2])) hQ)
    · refine r_aload_n dX13_isIn_24 rfl ?_
      refine r_get bX13 0 (by decide) q1010 dX13_isIn_25 rfl rfl ?_
      refine r_aload_n dX13_isIn_28 rfl ?_
      refine r_get bX13 3 (by decide) q1014 dX13_isIn_29 rfl rfl ?_
      refine r_ialdN dX13_isIn_32 hT (by omega) (Nat.le_of_ble_eq_true rfl) ?_
      refine r_iload_n dX13_isIn_33 rfl ?_
      refine r_icmp_gt 41 dX13_isIn_34 (by decide) (fun c_34 => ?_) (fun c_34 => ?_)
      · refine r_iconst 0 dX13_isIn_41 (by decide) ?_
        exact r_zret (ty := .boolean) dX13_isIn_42 rfl (rfl) (Nat.le_of_ble_eq_true rfl) (Nat.le_of_ble_eq_true rfl) (qi (by first | (have q1 := Int32.not_le.mpr c_21; simp [b2i, inB, q1]) | (have q1 := Int32.not_le.mpr c_34; simp [b2i, inB, q1]) | (have q1 := Int32.not_lt.mp c_21; have q2 := Int32.not_lt.mp c_34; simp [b2i, inB, q1, q2])) hQ)
      · refine r_iconst 1 dX13_isIn_37 (by decide) ?_
        refine r_goto 42 dX13_isIn_38 (by decide) ?_
        exact r_zret (ty := .boolean) dX13_isIn_42 rfl (rfl) (Nat.le_of_ble_eq_true rfl) (Nat.le_of_ble_eq_true rfl) (qi (by first | (have q1 := Int32.not_le.mpr c_21; simp [b2i, inB, q1]) | (have q1 := Int32.not_le.mpr c_34; simp [b2i, inB, q1]) | (have q1 := Int32.not_lt.mp c_21; have q2 := Int32.not_lt.mp c_34; simp [b2i, inB, q1, q2])) hQ)
  · have e : a = t := by omega
    rw [show decide (a < t) = false by simpa using g, Bool.false_and] at hQ
    refine r_aload_n dX13_isIn_0 rfl ?_
    refine r_get bX13 3 (by decide) q1014 dX13_isIn_1 rfl rfl ?_
    refine r_aload_n dX13_isIn_4 rfl ?_
    refine r_get bX13 1 (by decide) q1011 dX13_isIn_5 rfl rfl ?_
    refine r_icmp_ge 41 dX13_isIn_8 (by decide) (fun _ => ?_) (fun c_ => absurd (by rw [e]; exact Int32.le_refl _) c_)
    refine r_iconst 0 dX13_isIn_41 (by decide) ?_
    exact r_zret (ty := .boolean) dX13_isIn_42 rfl (rfl) (Nat.le_of_ble_eq_true rfl) (Nat.le_of_ble_eq_true rfl) (hQ)
end RD
theorem let_not_sp {x : Int32} (h : letB x = true) : inB x 97 122 = true := h
theorem dg_all : ∀ q, q < 10 → ∀ d, d < 10 → mnF 100 (10 * nI q + nI (48 + d) - 48) = 10 * nI q + nI (48 + d) - 48 := by decide +kernel
theorem dig_nI {x : Int32} (h : digB x = true) : ∃ d, d < 10 ∧ x = nI (48 + d) := by
  unfold digB inB at h
  simp only [Bool.and_eq_true, decide_eq_true_eq] at h
  obtain ⟨c, hc, e⟩ : ∃ c, c < 58 ∧ x = nI c := by
    refine inB_m (m := 58) ?_ (by omega)
    unfold inB
    have h1 : (0 : Int32) ≤ x := Int32.le_trans (by decide) h.1
    have h3 : x ≤ nI 58 - 1 := h.2
    simp only [h1, h3, decide_true, Bool.and_self]
  have h4 : 48 ≤ c := by
    by_cases g : c < 48
    · exact absurd h.1 (by rw [e]; exact Int32.not_le.mpr (show nI c < nI 48 from nI_lt g (by omega)))
    · omega
  exact ⟨c - 48, by omega, by rw [show 48 + (c - 48) = c by omega]; exact e⟩
theorem dg_first {x : Int32} (h : digB x = true) : mnF 100 (10 * 0 + x - 48) = x - 48 ∧ ∃ q, q < 10 ∧ x - 48 = nI q := by
  obtain ⟨d, hd, rfl⟩ := dig_nI h
  have key : ∀ d, d < 10 → mnF 100 (10 * 0 + nI (48 + d) - 48) = nI (48 + d) - 48 ∧ nI (48 + d) - 48 = nI d := by decide +kernel
  exact ⟨(key d hd).1, d, hd, (key d hd).2⟩
theorem dg_second {q : Nat} {x : Int32} (hq : q < 10) (h : digB x = true) : mnF 100 (10 * nI q + x - 48) = 10 * nI q + x - 48 := by
  obtain ⟨d, hd, rfl⟩ := dig_nI h
  exact dg_all q hq d hd
/-- the builder's growth: letters so far, capacity, arrays left behind, cells, slots -/
def GrO (n m z ce sl : Nat) : Prop := (m = 16 ∧ z = 0 ∧ n ≤ 16 ∧ ce = 2 ∧ sl = 20) ∨ (m = 34 ∧ z = 1 ∧ n ≤ 34 ∧ ce = 3 ∧ sl = 54) ∨ (m = 70 ∧ z = 2 ∧ n ≤ 70 ∧ ce = 4 ∧ sl = 124)
section RN
variable {Q : Option Value → AHp → Prop} {r0 x1 h2 P E : List AC} {t a : Nat} {fr nu : Int32} {wd : Value} {tp : Nat → Int32}
theorem nx_word (hT : x1[29]? = some (.inl (.int, 250, .inl tp))) (ht : t ≤ 64) {i : Nat} (hi : i < t) (hl : letB (tp i) = true) (hQ : ∀ E0 k, P.length + 1 + E0.length = k → Ext E (E0 ++ [stC k 0 0, txC tp i (skT tp letB t (i + 1) - i)]) → Q none (r0, x1, h2, rdC t (skT tp letB t (i + 1)) (nI i) (.ref (8 * (k + 0) + 3)) (-1) :: (P ++ (E0 ++ [stC k 0 0, txC tp i (skT tp letB t (i + 1) - i)])))) : Rch (mX13_next, 7, 6, 192, oQ Q) 0 0 53 [some (.ref 3), none] [] (r0, x1, h2, rdC t i (nI i) .null (-1) :: (P ++ E)) := by
  obtain ⟨s1, s2⟩ := skT_spec (tp := tp) (c := letB) (t := t) (i := i + 1) (by omega)
  obtain ⟨s3, s4⟩ := skT_le (tp := tp) (c := letB) (t := t) (i := i + 1) (by omega)
  generalize skT tp letB t (i + 1) = e at hQ s1 s2 s3 s4
  obtain ⟨k, hk⟩ : ∃ k, (P ++ E).length + 1 = k := ⟨_, rfl⟩
  have hkA : ∀ x : AC, (x :: (P ++ E)).length = k := fun _ => hk
  have hL : ∀ j, j < e - i → letB (tp (i + j)) = true := fun j hj => by
    by_cases g : j = 0
    · rw [g]; exact hl
    · exact s1 (i + j) (by omega) (by omega)
  have hlp : Rch (mX13_next, 7, 6, 192, oQ Q) 2 20 61 [some (.ref 3), some (.ref (8 * (k + 0) + 3))] [] (r0, x1, h2, (rdC t i (nI i) .null (-1) :: (P ++ E)) ++ (.inr (16, [.ref (8 * (k + (1 + 0)) + 3), .int 0, .int 0, .int (nI 0)]) :: ([] ++ [.inl (.byte, 16, .inl (bF tp i 0))]))) := by
    refine loopUp (N := e - i) (P := fun n => ∀ Z m z ce sl, Z.length = z → GrO n m z ce sl → Rch (mX13_next, 7, 6, 192, oQ Q) ce sl 61 [some (.ref 3), some (.ref (8 * (k + 0) + 3))] [] (r0, x1, h2, (rdC t (i + n) (nI i) .null (-1) :: (P ++ E)) ++ (.inr (16, [.ref (8 * (k + (1 + z)) + 3), .int 0, .int 0, .int (nI n)]) :: (Z ++ [.inl (.byte, m, .inl (bF tp i n))])))) ?_ ?_ [] 16 0 2 20 rfl (Or.inl ⟨rfl, rfl, by omega, rfl, rfl⟩)
    · intro Z m z ce sl hz hg
      have hgm : e - i ≤ m ∧ m ≤ 70 ∧ ce ≤ 4 ∧ sl ≤ 124 := by rcases hg with g | g | g <;> omega
      have ei : i + (e - i) = e := by omega
      rw [ei]
      have hf : (decide (e < t) && inB (tp e) 97 122) = false := by
        rcases s2 with s2 | s2
        · simp [s2]
        · rw [Bool.not_eq_true _ |>.mp (show ¬ inB (tp e) 97 122 = true from s2), Bool.and_false]
      refine r_aload_n dX13_next_61 rfl ?_
      refine r_bipush 97 dX13_next_62 (by decide) ?_
      refine r_bipush 122 dX13_next_64 (by decide) ?_
      refine r_callV (as := [_, _]) okX13_isIn bX13 rfl rfl q1041 dX13_next_66 (Nat.le_of_ble_eq_true rfl) rfl (Nat.le_of_ble_eq_true rfl) (show ce + 0 ≤ 6 by omega) (show sl + 0 ≤ 192 by omega) (pX13_isIn hT (by omega) s4 ?_)
      refine r_if_eq 100 dX13_next_69 (by decide) (fun _ => ?_) (fun c_ => absurd (by rw [hf]; rfl) c_)
      refine r_aload_n dX13_next_100 rfl ?_
      refine r_aload_n dX13_next_101 rfl ?_
      have hk2 : ((rdC t e (nI i) .null (-1) :: (P ++ E)) ++ ((.inr (16, [.ref (8 * (k + (1 + z)) + 3), .int 0, .int 0, .int (nI (e - i))]) : AC) :: (Z ++ [.inl (.byte, m, .inl (bF tp i (e - i)))]))).length = k + (1 + (z + 1)) := by
        simp only [List.length_append, List.length_cons, List.length_nil] at hk ⊢
        omega
      refine r_callV (as := []) okJ12_toString bJ12 rfl (dynG (hkA _) (i := 0) rfl) q1069 dX13_next_102 (Nat.le_of_ble_eq_true rfl) rfl (Nat.le_of_ble_eq_true rfl) (show ce + 0 + 2 ≤ 6 by omega) (show sl + 0 + (4 + (e - i)) ≤ 192 by omega) (pJ12_toString hk2 (dynG (hkA _) (i := 0) rfl) (dynG (hkA _) (i := 1 + z) (zb_at hz)) hgm.1 (by omega) (fun j hj => bF_fits hL) (g' := fun j => tp (i + j)) (fun j hj => by unfold bF; rw [if_pos hj]) ?_)
      have hq := hQ (E ++ ((.inr (16, [.ref (8 * (k + (1 + z)) + 3), .int 0, .int 0, .int (nI (e - i))]) : AC) :: (Z ++ [.inl (.byte, m, .inl (bF tp i (e - i)))]))) (k + (1 + (z + 1))) (by simp only [List.length_append, List.length_cons, List.length_nil] at hk ⊢; omega) (by rw [List.append_assoc]; exact Ext.app _ _)
      rw [← List.append_assoc P, ← List.append_assoc P] at hq
      refine r_put bX13 5 (by decide) rfl q1016 dX13_next_105 rfl rfl rfl (Nat.le_of_ble_eq_true rfl) ?_
      refine r_goto 224 dX13_next_108 (by decide) ?_
      exact r_vret dX13_next_224 rfl (show ce + 0 + 2 ≤ 6 by omega) (show sl + 0 + (4 + (e - i)) ≤ 192 by omega) (hq)
    · intro n hn ih Z m z ce sl hz hg
      have hgm : n ≤ m ∧ m ≤ 70 ∧ ce ≤ 4 ∧ sl ≤ 124 := by rcases hg with g | g | g <;> omega
      have hln := hL n hn
      have hf : (decide (i + n < t) && inB (tp (i + n)) 97 122) = true := by
        rw [show decide (i + n < t) = true by simp; omega, Bool.true_and]
        exact hln
      by_cases g : n < m
      · refine r_aload_n dX13_next_61 rfl ?_
        refine r_bipush 97 dX13_next_62 (by decide) ?_
        refine r_bipush 122 dX13_next_64 (by decide) ?_
        refine r_callV (as := [_, _]) okX13_isIn bX13 rfl rfl q1041 dX13_next_66 (Nat.le_of_ble_eq_true rfl) rfl (Nat.le_of_ble_eq_true rfl) (show ce + 0 ≤ 6 by omega) (show sl + 0 ≤ 192 by omega) (pX13_isIn hT (by omega) (by omega) ?_)
        refine r_if_eq 100 dX13_next_69 (by decide) (fun c_ => absurd c_ (by rw [hf]; decide)) (fun _ => ?_)
        refine r_aload_n dX13_next_72 rfl ?_
        refine r_aload_n dX13_next_73 rfl ?_
        refine r_get bX13 0 (by decide) q1010 dX13_next_74 rfl rfl ?_
        refine r_aload_n dX13_next_77 rfl ?_
        refine r_get bX13 3 (by decide) q1014 dX13_next_78 rfl rfl ?_
        refine r_ialdN dX13_next_81 hT (by omega) (Nat.le_of_ble_eq_true rfl) ?_
        refine r_i2c dX13_next_82 ?_
        rw [let_c hln]
        refine r_callV (as := [_]) okJ12_append_3 bJ12 rfl (dynG (hkA _) (i := 0) rfl) q1047 dX13_next_83 (Nat.le_of_ble_eq_true rfl) rfl (Nat.le_of_ble_eq_true rfl) (show ce + 0 + 0 ≤ 6 by omega) (show sl + 0 + 0 ≤ 192 by omega) (pJ12_append_k (hkA _) hz g hgm.2.1 hln ?_)
        refine r_pop dX13_next_86 rfl ?_
        refine r_aload_n dX13_next_87 rfl ?_
        refine r_dup dX13_next_88 rfl ?_
        refine r_get bX13 3 (by decide) q1014 dX13_next_89 rfl rfl ?_
        refine r_iconst 1 dX13_next_92 (by decide) ?_
        refine r_iadd dX13_next_93 ?_
        rw [nI_1]
        refine r_put bX13 3 (by decide) rfl q1014 dX13_next_94 rfl rfl rfl (Nat.le_of_ble_eq_true rfl) ?_
        refine r_goto 61 dX13_next_97 (by decide) ?_
        exact ih Z m z _ _ hz (by rcases hg with g | g | g <;> simp only [GrO] <;> omega)
      · have en : n = m := by omega
        subst en
        have hm : n = 16 ∨ n = 34 := by rcases hg with g | g | g <;> omega
        have hg2 : GrO (n + 1) (2 * n + 2) (z + 1) (ce + 1) (sl + (2 * n + 2)) := by
          unfold GrO at hg ⊢
          rcases hg with g | g | g <;> omega
        have hb : ce + 1 ≤ 4 ∧ sl + (2 * n + 2) ≤ 124 := by rcases hg2 with g | g | g <;> omega
        refine r_aload_n dX13_next_61 rfl ?_
        refine r_bipush 97 dX13_next_62 (by decide) ?_
        refine r_bipush 122 dX13_next_64 (by decide) ?_
        refine r_callV (as := [_, _]) okX13_isIn bX13 rfl rfl q1041 dX13_next_66 (Nat.le_of_ble_eq_true rfl) rfl (Nat.le_of_ble_eq_true rfl) (show ce + 0 ≤ 6 by omega) (show sl + 0 ≤ 192 by omega) (pX13_isIn hT (by omega) (by omega) ?_)
        refine r_if_eq 100 dX13_next_69 (by decide) (fun c_ => absurd c_ (by rw [hf]; decide)) (fun _ => ?_)
        refine r_aload_n dX13_next_72 rfl ?_
        refine r_aload_n dX13_next_73 rfl ?_
        refine r_get bX13 0 (by decide) q1010 dX13_next_74 rfl rfl ?_
        refine r_aload_n dX13_next_77 rfl ?_
        refine r_get bX13 3 (by decide) q1014 dX13_next_78 rfl rfl ?_
        refine r_ialdN dX13_next_81 hT (by omega) (Nat.le_of_ble_eq_true rfl) ?_
        refine r_i2c dX13_next_82 ?_
        rw [let_c hln]
        refine r_callV (as := [_]) okJ12_append_3 bJ12 rfl (dynG (hkA _) (i := 0) rfl) q1047 dX13_next_83 (Nat.le_of_ble_eq_true rfl) rfl (Nat.le_of_ble_eq_true rfl) (show ce + 0 + 1 ≤ 6 by omega) (show sl + 0 + (2 * n + 2) ≤ 192 by omega) (pJ12_append_g (hkA _) hz hm (fun j hj => hL j (by omega)) ?_)
        refine r_pop dX13_next_86 rfl ?_
        refine r_aload_n dX13_next_87 rfl ?_
        refine r_dup dX13_next_88 rfl ?_
        refine r_get bX13 3 (by decide) q1014 dX13_next_89 rfl rfl ?_
        refine r_iconst 1 dX13_next_92 (by decide) ?_
        refine r_iadd dX13_next_93 ?_
        rw [nI_1]
        refine r_put bX13 3 (by decide) rfl q1014 dX13_next_94 rfl rfl rfl (Nat.le_of_ble_eq_true rfl) ?_
        refine r_goto 61 dX13_next_97 (by decide) ?_
        exact ih (Z ++ [_]) (2 * n + 2) (z + 1) _ _ (by simp [hz]) hg2
  rw [show (rdC t i (nI i) .null (-1) :: (P ++ E)) = (rdC t i (nI i) .null (-1) :: (P ++ E)) ++ [] from (List.append_nil _).symm]
  refine r_newD (hkA _) 0 rfl bJ12 [.null, .int 0, .int 0, .int 0] (by decide) (fun _ => rfl) q1045 q734 q109 dX13_next_53 (Nat.le_of_ble_eq_true rfl) (Nat.le_of_ble_eq_true rfl) ?_
  show Rch _ _ _ _ _ _ (r0, x1, h2, (rdC t i (nI i) .null (-1) :: (P ++ E)) ++ [.inr (16, [.null, .int 0, .int 0, .int 0])])
  refine r_dup dX13_next_56 rfl ?_
  refine r_callI (as := []) okJ12_init q1046 dX13_next_57 (Nat.le_of_ble_eq_true rfl) rfl (Nat.le_of_ble_eq_true rfl) (Nat.le_of_ble_eq_true rfl) (Nat.le_of_ble_eq_true rfl) (pJ12_init (hkA _) ?_)
  refine r_astore_n dX13_next_60 (Nat.le_of_ble_eq_true rfl) ?_
  refine r_norm (bF tp i 0) (dynG (hkA _) (i := 1) rfl) (fun j _ => by unfold bF; rw [if_neg (by omega)]) ?_
  rw [dynS (hkA _) (i := 1)]
  exact hlp
theorem nx_num (hT : x1[29]? = some (.inl (.int, 250, .inl tp))) (ht : t ≤ 64) {i : Nat} (hi : i < t) (hl : digB (tp i) = true) {z : Nat} {va : Int32} (hD : dgG tp i (t - (i + 1)) (i + 1) (tp i - 48) = (z, va)) (hQ1 : 2 < nI z - nI i → Q none (r0, x1, h2, rdC t z (nI i) .null 100 :: (P ++ E))) (hQ2 : ¬ 2 < nI z - nI i → Q none (r0, x1, h2, rdC t z (nI i) .null va :: (P ++ E))) : Rch (mX13_next, 7, 6, 192, oQ Q) 0 0 122 [some (.ref 3), none] [] (r0, x1, h2, rdC t i (nI i) .null (-1) :: (P ++ E)) := by
  have hin : ∀ k, k < t → digB (tp k) = true → (decide (k < t) && inB (tp k) 48 57) = true := fun k hk h => by
    rw [show decide (k < t) = true by simpa using hk, Bool.true_and]
    exact h
  obtain ⟨f1, q1, hq1, f2⟩ := dg_first hl
  have hfin : ∀ v, (z ≤ i + 2 → v = va) → i < z → z ≤ t → Rch (mX13_next, 7, 6, 192, oQ Q) 0 0 171 [some (.ref 3), some (.int v)] [] (r0, x1, h2, rdC t z (nI i) .null (-1) :: (P ++ E)) := by
    intro v hv hz1 hz2
    have e1 : (nI z - nI i).toInt = (z : Int) - i := pk_sub_toInt (by omega) (by omega)
    have e2 : (2 : Int32).toInt = 2 := by decide
    by_cases g : 2 < nI z - nI i
    · have q := hQ1 g
      refine r_aload_n dX13_next_171 rfl ?_
      refine r_aload_n dX13_next_172 rfl ?_
      refine r_get bX13 3 (by decide) q1014 dX13_next_173 rfl rfl ?_
      refine r_aload_n dX13_next_176 rfl ?_
      refine r_get bX13 4 (by decide) q1015 dX13_next_177 rfl rfl ?_
      refine r_isub dX13_next_180 ?_
      refine r_iconst 2 dX13_next_181 (by decide) ?_
      refine r_icmp_le 190 dX13_next_182 (by decide) (fun c_ => absurd c_ (Int32.not_le.mpr g)) (fun _ => ?_)
      refine r_bipush 100 dX13_next_185 (by decide) ?_
      refine r_goto 191 dX13_next_187 (by decide) ?_
      refine r_put bX13 6 (by decide) rfl q1017 dX13_next_191 rfl rfl rfl (Nat.le_of_ble_eq_true rfl) ?_
      refine r_goto 224 dX13_next_194 (by decide) ?_
      exact r_vret dX13_next_224 rfl (Nat.le_of_ble_eq_true rfl) (Nat.le_of_ble_eq_true rfl) (q)
    · have q := hQ2 g
      have hz3 : z ≤ i + 2 := by
        have g := g
        rw [Int32.lt_iff_toInt_lt, e1, e2] at g
        omega
      rw [← hv hz3] at q
      refine r_aload_n dX13_next_171 rfl ?_
      refine r_aload_n dX13_next_172 rfl ?_
      refine r_get bX13 3 (by decide) q1014 dX13_next_173 rfl rfl ?_
      refine r_aload_n dX13_next_176 rfl ?_
      refine r_get bX13 4 (by decide) q1015 dX13_next_177 rfl rfl ?_
      refine r_isub dX13_next_180 ?_
      refine r_iconst 2 dX13_next_181 (by decide) ?_
      refine r_icmp_le 190 dX13_next_182 (by decide) (fun _ => ?_) (fun c_ => absurd (Int32.not_lt.mp g) c_)
      refine r_iload_n dX13_next_190 rfl ?_
      refine r_put bX13 6 (by decide) rfl q1017 dX13_next_191 rfl rfl rfl (Nat.le_of_ble_eq_true rfl) ?_
      refine r_goto 224 dX13_next_194 (by decide) ?_
      exact r_vret dX13_next_224 rfl (Nat.le_of_ble_eq_true rfl) (Nat.le_of_ble_eq_true rfl) (q)
  have hlp : ∀ k, i + 1 ≤ k → k ≤ t → ∀ v w, (k = i + 1 → v = nI q1 ∧ w = nI q1) → (k = i + 2 → v = w) → dgG tp i (t - k) k w = (z, va) → Rch (mX13_next, 7, 6, 192, oQ Q) 0 0 124 [some (.ref 3), some (.int v)] [] (r0, x1, h2, rdC t k (nI i) .null (-1) :: (P ++ E)) := by
    intro k hk1 hk2
    refine loopFrom (N := t) (P := fun k => i + 1 ≤ k → ∀ v w, (k = i + 1 → v = nI q1 ∧ w = nI q1) → (k = i + 2 → v = w) → dgG tp i (t - k) k w = (z, va) → Rch (mX13_next, 7, 6, 192, oQ Q) 0 0 124 [some (.ref 3), some (.int v)] [] (r0, x1, h2, rdC t k (nI i) .null (-1) :: (P ++ E))) k hk2 ?_ ?_ hk1
    · intro hk1 v w c1 c2 eD
      rw [Nat.sub_self, dgG] at eD
      obtain ⟨rfl, rfl⟩ := Prod.mk.inj eD
      refine r_aload_n dX13_next_124 rfl ?_
      refine r_bipush 48 dX13_next_125 (by decide) ?_
      refine r_bipush 57 dX13_next_127 (by decide) ?_
      refine r_callV (as := [_, _]) okX13_isIn bX13 rfl rfl q1041 dX13_next_129 (Nat.le_of_ble_eq_true rfl) rfl (Nat.le_of_ble_eq_true rfl) (Nat.le_of_ble_eq_true rfl) (Nat.le_of_ble_eq_true rfl) (pX13_isIn hT (by omega) (Nat.le_refl _) ?_)
      refine r_if_eq 171 dX13_next_132 (by decide) (fun _ => ?_) (fun c_ => absurd (by simp [b2i]) c_)
      exact hfin v (fun h => by by_cases g : t = i + 1; exact (c1 g).1.trans (c1 g).2.symm; exact c2 (by omega)) (by omega) (Nat.le_refl _)
    · intro k _ hk3 ih hk1 v w c1 c2 eD
      rw [show t - k = (t - (k + 1)) + 1 by omega, dgG_s] at eD
      by_cases g : digB (tp k) = true
      · rw [if_pos g] at eD
        refine r_aload_n dX13_next_124 rfl ?_
        refine r_bipush 48 dX13_next_125 (by decide) ?_
        refine r_bipush 57 dX13_next_127 (by decide) ?_
        refine r_callV (as := [_, _]) okX13_isIn bX13 rfl rfl q1041 dX13_next_129 (Nat.le_of_ble_eq_true rfl) rfl (Nat.le_of_ble_eq_true rfl) (Nat.le_of_ble_eq_true rfl) (Nat.le_of_ble_eq_true rfl) (pX13_isIn hT (by omega) (by omega) ?_)
        refine r_if_eq 171 dX13_next_132 (by decide) (fun c_ => absurd c_ (by rw [hin k hk3 g]; decide)) (fun _ => ?_)
        refine r_bipush 100 dX13_next_135 (by decide) ?_
        refine r_bipush 10 dX13_next_137 (by decide) ?_
        refine r_iload_n dX13_next_139 rfl ?_
        refine r_imul dX13_next_140 ?_
        refine r_aload_n dX13_next_141 rfl ?_
        refine r_get bX13 0 (by decide) q1010 dX13_next_142 rfl rfl ?_
        refine r_aload_n dX13_next_145 rfl ?_
        refine r_get bX13 3 (by decide) q1014 dX13_next_146 rfl rfl ?_
        refine r_ialdN dX13_next_149 hT (by omega) (Nat.le_of_ble_eq_true rfl) ?_
        refine r_iadd dX13_next_150 ?_
        refine r_bipush 48 dX13_next_151 (by decide) ?_
        refine r_isub dX13_next_153 ?_
        refine r_mmin q1070 dX13_next_154 (Nat.le_of_ble_eq_true rfl) (Nat.le_of_ble_eq_true rfl) (Nat.le_of_ble_eq_true rfl) ?_
        refine r_istore_n dX13_next_157 (Nat.le_of_ble_eq_true rfl) ?_
        refine r_aload_n dX13_next_158 rfl ?_
        refine r_dup dX13_next_159 rfl ?_
        refine r_get bX13 3 (by decide) q1014 dX13_next_160 rfl rfl ?_
        refine r_iconst 1 dX13_next_163 (by decide) ?_
        refine r_iadd dX13_next_164 ?_
        rw [nI_1]
        refine r_put bX13 3 (by decide) rfl q1014 dX13_next_165 rfl rfl rfl (Nat.le_of_ble_eq_true rfl) ?_
        refine r_goto 124 dX13_next_168 (by decide) ?_
        refine ih (by omega) _ _ (fun h => absurd h (by omega)) (fun h => ?_) eD
        have hk4 : k = i + 1 := by omega
        have g6 : nI k - nI i < 2 := by
          have e1 : (nI k - nI i).toInt = (k : Int) - i := pk_sub_toInt (by omega) (by omega)
          rw [Int32.lt_iff_toInt_lt, e1, show (2 : Int32).toInt = 2 by decide]
          omega
        rw [if_pos g6, (c1 hk4).1, (c1 hk4).2]
        exact dg_second hq1 g
      · rw [if_neg g] at eD
        obtain ⟨rfl, rfl⟩ := Prod.mk.inj eD
        have hf : (decide (k < t) && inB (tp k) 48 57) = false := by rw [Bool.not_eq_true _ |>.mp (show ¬ inB (tp k) 48 57 = true from g), Bool.and_false]
        refine r_aload_n dX13_next_124 rfl ?_
        refine r_bipush 48 dX13_next_125 (by decide) ?_
        refine r_bipush 57 dX13_next_127 (by decide) ?_
        refine r_callV (as := [_, _]) okX13_isIn bX13 rfl rfl q1041 dX13_next_129 (Nat.le_of_ble_eq_true rfl) rfl (Nat.le_of_ble_eq_true rfl) (Nat.le_of_ble_eq_true rfl) (Nat.le_of_ble_eq_true rfl) (pX13_isIn hT (by omega) (by omega) ?_)
        refine r_if_eq 171 dX13_next_132 (by decide) (fun _ => ?_) (fun c_ => absurd (by rw [hf]; rfl) c_)
        exact hfin v (fun h => by by_cases g : k = i + 1; exact (c1 g).1.trans (c1 g).2.symm; exact c2 (by omega)) (by omega) (by omega)
  refine r_iconst 0 dX13_next_122 (by decide) ?_
  refine r_istore_n dX13_next_123 (Nat.le_of_ble_eq_true rfl) ?_
  refine r_aload_n dX13_next_124 rfl ?_
  refine r_bipush 48 dX13_next_125 (by decide) ?_
  refine r_bipush 57 dX13_next_127 (by decide) ?_
  refine r_callV (as := [_, _]) okX13_isIn bX13 rfl rfl q1041 dX13_next_129 (Nat.le_of_ble_eq_true rfl) rfl (Nat.le_of_ble_eq_true rfl) (Nat.le_of_ble_eq_true rfl) (Nat.le_of_ble_eq_true rfl) (pX13_isIn hT (by omega) (by omega) ?_)
  refine r_if_eq 171 dX13_next_132 (by decide) (fun c_ => absurd c_ (by rw [hin i hi hl]; decide)) (fun _ => ?_)
  refine r_bipush 100 dX13_next_135 (by decide) ?_
  refine r_bipush 10 dX13_next_137 (by decide) ?_
  refine r_iload_n dX13_next_139 rfl ?_
  refine r_imul dX13_next_140 ?_
  refine r_aload_n dX13_next_141 rfl ?_
  refine r_get bX13 0 (by decide) q1010 dX13_next_142 rfl rfl ?_
  refine r_aload_n dX13_next_145 rfl ?_
  refine r_get bX13 3 (by decide) q1014 dX13_next_146 rfl rfl ?_
  refine r_ialdN dX13_next_149 hT (by omega) (Nat.le_of_ble_eq_true rfl) ?_
  refine r_iadd dX13_next_150 ?_
  refine r_bipush 48 dX13_next_151 (by decide) ?_
  refine r_isub dX13_next_153 ?_
  refine r_mmin q1070 dX13_next_154 (Nat.le_of_ble_eq_true rfl) (Nat.le_of_ble_eq_true rfl) (Nat.le_of_ble_eq_true rfl) ?_
  rw [f1]
  refine r_istore_n dX13_next_157 (Nat.le_of_ble_eq_true rfl) ?_
  refine r_aload_n dX13_next_158 rfl ?_
  refine r_dup dX13_next_159 rfl ?_
  refine r_get bX13 3 (by decide) q1014 dX13_next_160 rfl rfl ?_
  refine r_iconst 1 dX13_next_163 (by decide) ?_
  refine r_iadd dX13_next_164 ?_
  rw [nI_1]
  refine r_put bX13 3 (by decide) rfl q1014 dX13_next_165 rfl rfl rfl (Nat.le_of_ble_eq_true rfl) ?_
  refine r_goto 124 dX13_next_168 (by decide) ?_
  exact hlp (i + 1) (Nat.le_refl _) (by omega) _ _ (fun _ => ⟨f2, f2⟩) (fun h => absurd h (by omega)) hD
theorem pX13_next (hT : x1[29]? = some (.inl (.int, 250, .inl tp))) (ht : t ≤ 64) (ha : a ≤ t) (hQ : ∀ E' a' wd nu, Ext E E' → TkV tp t a P.length E' a' wd nu → Q none (r0, x1, h2, rdC t a' (nI (nxF tp t a 0).1) wd nu :: (P ++ E'))) : AMet mX13_next 7 6 192 [.ref 3] (r0, x1, h2, rdC t a fr wd nu :: (P ++ E)) Q := by
  refine AMet.ofRch rfl rfl (Nat.le_of_ble_eq_true rfl) ?_
  have htok : ∀ i, i ≤ t → skT tp spB t a = i → ∀ fr wd nu, Rch (mX13_next, 7, 6, 192, oQ Q) 0 0 24 [some (.ref 3), none] [] (r0, x1, h2, rdC t i fr wd nu :: (P ++ E)) := by
    intro i hi e fr wd nu
    unfold TkV nxF at hQ
    rw [e] at hQ
    unfold tkN at hQ
    refine r_aload_n dX13_next_24 rfl ?_
    refine r_aload_n dX13_next_25 rfl ?_
    refine r_get bX13 3 (by decide) q1014 dX13_next_26 rfl rfl ?_
    refine r_put bX13 4 (by decide) rfl q1015 dX13_next_29 rfl rfl rfl (Nat.le_of_ble_eq_true rfl) ?_
    refine r_aload_n dX13_next_32 rfl ?_
    refine r_null dX13_next_33 ?_
    refine r_put bX13 5 (by decide) rfl q1016 dX13_next_34 rfl rfl rfl (Nat.le_of_ble_eq_true rfl) ?_
    refine r_aload_n dX13_next_37 rfl ?_
    refine r_iconst (-1) dX13_next_38 (by decide) ?_
    refine r_put bX13 6 (by decide) rfl q1017 dX13_next_39 rfl rfl rfl (Nat.le_of_ble_eq_true rfl) ?_
    show Rch (mX13_next, 7, 6, 192, oQ Q) 0 0 42 [some (.ref 3), none] [] (r0, x1, h2, rdC t i (nI i) .null (-1) :: (P ++ E))
    by_cases g : i = t
    · subst g
      rw [if_pos rfl] at hQ
      have q := hQ E i .null (-1) (Ext.refl _) (Or.inl ⟨rfl, rfl, rfl⟩)
      refine r_aload_n dX13_next_42 rfl ?_
      refine r_bipush 97 dX13_next_43 (by decide) ?_
      refine r_bipush 122 dX13_next_45 (by decide) ?_
      refine r_callV (as := [_, _]) okX13_isIn bX13 rfl rfl q1041 dX13_next_47 (Nat.le_of_ble_eq_true rfl) rfl (Nat.le_of_ble_eq_true rfl) (Nat.le_of_ble_eq_true rfl) (Nat.le_of_ble_eq_true rfl) (pX13_isIn hT (by omega) (Nat.le_refl _) ?_)
      refine r_if_eq 111 dX13_next_50 (by decide) (fun _ => ?_) (fun c_ => absurd (by simp [b2i]) c_)
      refine r_aload_n dX13_next_111 rfl ?_
      refine r_bipush 48 dX13_next_112 (by decide) ?_
      refine r_bipush 57 dX13_next_114 (by decide) ?_
      refine r_callV (as := [_, _]) okX13_isIn bX13 rfl rfl q1041 dX13_next_116 (Nat.le_of_ble_eq_true rfl) rfl (Nat.le_of_ble_eq_true rfl) (Nat.le_of_ble_eq_true rfl) (Nat.le_of_ble_eq_true rfl) (pX13_isIn hT (by omega) (Nat.le_refl _) ?_)
      refine r_if_eq 197 dX13_next_119 (by decide) (fun _ => ?_) (fun c_ => absurd (by simp [b2i]) c_)
      refine r_aload_n dX13_next_197 rfl ?_
      refine r_bipush 59 dX13_next_198 (by decide) ?_
      refine r_bipush 59 dX13_next_200 (by decide) ?_
      refine r_callV (as := [_, _]) okX13_isIn bX13 rfl rfl q1041 dX13_next_202 (Nat.le_of_ble_eq_true rfl) rfl (Nat.le_of_ble_eq_true rfl) (Nat.le_of_ble_eq_true rfl) (Nat.le_of_ble_eq_true rfl) (pX13_isIn hT (by omega) (Nat.le_refl _) ?_)
      refine r_if_eq 224 dX13_next_205 (by decide) (fun _ => ?_) (fun c_ => absurd (by simp [b2i]) c_)
      exact r_vret dX13_next_224 rfl (Nat.le_of_ble_eq_true rfl) (Nat.le_of_ble_eq_true rfl) (q)
    · rw [if_neg g] at hQ
      have g1 : i < t := by omega
      have hd : decide (i < t) = true := by simpa using g1
      by_cases c1 : letB (tp i) = true
      · rw [if_pos c1] at hQ
        refine r_aload_n dX13_next_42 rfl ?_
        refine r_bipush 97 dX13_next_43 (by decide) ?_
        refine r_bipush 122 dX13_next_45 (by decide) ?_
        refine r_callV (as := [_, _]) okX13_isIn bX13 rfl rfl q1041 dX13_next_47 (Nat.le_of_ble_eq_true rfl) rfl (Nat.le_of_ble_eq_true rfl) (Nat.le_of_ble_eq_true rfl) (Nat.le_of_ble_eq_true rfl) (pX13_isIn hT (by omega) (by omega) ?_)
        refine r_if_eq 111 dX13_next_50 (by decide) (fun c_ => absurd c_ (by rw [hd, Bool.true_and, show inB (tp i) 97 122 = true from c1]; decide)) (fun _ => ?_)
        exact nx_word hT ht g1 c1 (fun E0 k hk hx => hQ _ _ _ _ hx (Or.inr (Or.inr (Or.inr (Or.inr ⟨rfl, rfl, rfl, E0, [], k, hk, rfl, rfl⟩)))))
      · rw [if_neg c1] at hQ
        have c1' : inB (tp i) 97 122 = false := Bool.not_eq_true _ |>.mp c1
        by_cases c2 : digB (tp i) = true
        · rw [if_pos c2] at hQ
          refine r_aload_n dX13_next_42 rfl ?_
          refine r_bipush 97 dX13_next_43 (by decide) ?_
          refine r_bipush 122 dX13_next_45 (by decide) ?_
          refine r_callV (as := [_, _]) okX13_isIn bX13 rfl rfl q1041 dX13_next_47 (Nat.le_of_ble_eq_true rfl) rfl (Nat.le_of_ble_eq_true rfl) (Nat.le_of_ble_eq_true rfl) (Nat.le_of_ble_eq_true rfl) (pX13_isIn hT (by omega) (by omega) ?_)
          refine r_if_eq 111 dX13_next_50 (by decide) (fun _ => ?_) (fun c_ => absurd (by rw [hd, Bool.true_and, c1']; rfl) c_)
          refine r_aload_n dX13_next_111 rfl ?_
          refine r_bipush 48 dX13_next_112 (by decide) ?_
          refine r_bipush 57 dX13_next_114 (by decide) ?_
          refine r_callV (as := [_, _]) okX13_isIn bX13 rfl rfl q1041 dX13_next_116 (Nat.le_of_ble_eq_true rfl) rfl (Nat.le_of_ble_eq_true rfl) (Nat.le_of_ble_eq_true rfl) (Nat.le_of_ble_eq_true rfl) (pX13_isIn hT (by omega) (by omega) ?_)
          refine r_if_eq 197 dX13_next_119 (by decide) (fun c_ => absurd c_ (by rw [hd, Bool.true_and, show inB (tp i) 48 57 = true from c2]; decide)) (fun _ => ?_)
          refine nx_num hT ht g1 c2 rfl (fun h => ?_) (fun h => ?_)
          · refine hQ E _ _ _ (Ext.refl _) (Or.inr (Or.inr (Or.inr (Or.inl ⟨?_, rfl, Or.inr rfl⟩))))
            exact if_pos h
          · refine hQ E _ _ _ (Ext.refl _) (Or.inr (Or.inl ⟨?_, rfl, rfl, rfl⟩))
            exact if_neg h
        · rw [if_neg c2] at hQ
          have c2' : inB (tp i) 48 57 = false := Bool.not_eq_true _ |>.mp c2
          by_cases c3 : tp i = 59
          · rw [if_pos c3] at hQ
            have q := hQ E (i + 1) _ _ (Ext.refl _) (Or.inr (Or.inr (Or.inl ⟨rfl, rfl, rfl, rfl⟩)))
            refine r_aload_n dX13_next_42 rfl ?_
            refine r_bipush 97 dX13_next_43 (by decide) ?_
            refine r_bipush 122 dX13_next_45 (by decide) ?_
            refine r_callV (as := [_, _]) okX13_isIn bX13 rfl rfl q1041 dX13_next_47 (Nat.le_of_ble_eq_true rfl) rfl (Nat.le_of_ble_eq_true rfl) (Nat.le_of_ble_eq_true rfl) (Nat.le_of_ble_eq_true rfl) (pX13_isIn hT (by omega) (by omega) ?_)
            refine r_if_eq 111 dX13_next_50 (by decide) (fun _ => ?_) (fun c_ => absurd (by rw [hd, Bool.true_and, c1']; rfl) c_)
            refine r_aload_n dX13_next_111 rfl ?_
            refine r_bipush 48 dX13_next_112 (by decide) ?_
            refine r_bipush 57 dX13_next_114 (by decide) ?_
            refine r_callV (as := [_, _]) okX13_isIn bX13 rfl rfl q1041 dX13_next_116 (Nat.le_of_ble_eq_true rfl) rfl (Nat.le_of_ble_eq_true rfl) (Nat.le_of_ble_eq_true rfl) (Nat.le_of_ble_eq_true rfl) (pX13_isIn hT (by omega) (by omega) ?_)
            refine r_if_eq 197 dX13_next_119 (by decide) (fun _ => ?_) (fun c_ => absurd (by rw [hd, Bool.true_and, c2']; rfl) c_)
            refine r_aload_n dX13_next_197 rfl ?_
            refine r_bipush 59 dX13_next_198 (by decide) ?_
            refine r_bipush 59 dX13_next_200 (by decide) ?_
            refine r_callV (as := [_, _]) okX13_isIn bX13 rfl rfl q1041 dX13_next_202 (Nat.le_of_ble_eq_true rfl) rfl (Nat.le_of_ble_eq_true rfl) (Nat.le_of_ble_eq_true rfl) (Nat.le_of_ble_eq_true rfl) (pX13_isIn hT (by omega) (by omega) ?_)
            refine r_if_eq 224 dX13_next_205 (by decide) (fun c_ => absurd c_ (by rw [hd, Bool.true_and, c3]; decide)) (fun _ => ?_)
            refine r_aload_n dX13_next_208 rfl ?_
            refine r_ldcS 1 [true, true, false, false, false, true, false, true, false, false] rfl rfl q1071 dX13_next_209 ?_
            refine r_put bX13 5 (by decide) rfl q1016 dX13_next_211 rfl rfl rfl (Nat.le_of_ble_eq_true rfl) ?_
            refine r_aload_n dX13_next_214 rfl ?_
            refine r_dup dX13_next_215 rfl ?_
            refine r_get bX13 3 (by decide) q1014 dX13_next_216 rfl rfl ?_
            refine r_iconst 1 dX13_next_219 (by decide) ?_
            refine r_iadd dX13_next_220 ?_
            rw [nI_1]
            refine r_put bX13 3 (by decide) rfl q1014 dX13_next_221 rfl rfl rfl (Nat.le_of_ble_eq_true rfl) ?_
            exact r_vret dX13_next_224 rfl (Nat.le_of_ble_eq_true rfl) (Nat.le_of_ble_eq_true rfl) (q)
          · rw [if_neg c3] at hQ
            have c3' : inB (tp i) 59 59 = false := by
              by_cases z : inB (tp i) 59 59 = true
              · unfold inB at z
                simp only [Bool.and_eq_true, decide_eq_true_eq] at z
                exact absurd (Int32.le_antisymm z.2 z.1) c3
              · exact Bool.not_eq_true _ |>.mp z
            have q := hQ E i _ (-1) (Ext.refl _) (Or.inr (Or.inr (Or.inr (Or.inl ⟨rfl, rfl, Or.inl rfl⟩))))
            refine r_aload_n dX13_next_42 rfl ?_
            refine r_bipush 97 dX13_next_43 (by decide) ?_
            refine r_bipush 122 dX13_next_45 (by decide) ?_
            refine r_callV (as := [_, _]) okX13_isIn bX13 rfl rfl q1041 dX13_next_47 (Nat.le_of_ble_eq_true rfl) rfl (Nat.le_of_ble_eq_true rfl) (Nat.le_of_ble_eq_true rfl) (Nat.le_of_ble_eq_true rfl) (pX13_isIn hT (by omega) (by omega) ?_)
            refine r_if_eq 111 dX13_next_50 (by decide) (fun _ => ?_) (fun c_ => absurd (by rw [hd, Bool.true_and, c1']; rfl) c_)
            refine r_aload_n dX13_next_111 rfl ?_
            refine r_bipush 48 dX13_next_112 (by decide) ?_
            refine r_bipush 57 dX13_next_114 (by decide) ?_
            refine r_callV (as := [_, _]) okX13_isIn bX13 rfl rfl q1041 dX13_next_116 (Nat.le_of_ble_eq_true rfl) rfl (Nat.le_of_ble_eq_true rfl) (Nat.le_of_ble_eq_true rfl) (Nat.le_of_ble_eq_true rfl) (pX13_isIn hT (by omega) (by omega) ?_)
            refine r_if_eq 197 dX13_next_119 (by decide) (fun _ => ?_) (fun c_ => absurd (by rw [hd, Bool.true_and, c2']; rfl) c_)
            refine r_aload_n dX13_next_197 rfl ?_
            refine r_bipush 59 dX13_next_198 (by decide) ?_
            refine r_bipush 59 dX13_next_200 (by decide) ?_
            refine r_callV (as := [_, _]) okX13_isIn bX13 rfl rfl q1041 dX13_next_202 (Nat.le_of_ble_eq_true rfl) rfl (Nat.le_of_ble_eq_true rfl) (Nat.le_of_ble_eq_true rfl) (Nat.le_of_ble_eq_true rfl) (pX13_isIn hT (by omega) (by omega) ?_)
            refine r_if_eq 224 dX13_next_205 (by decide) (fun _ => ?_) (fun c_ => absurd (by rw [hd, Bool.true_and, c3']; rfl) c_)
            exact r_vret dX13_next_224 rfl (Nat.le_of_ble_eq_true rfl) (Nat.le_of_ble_eq_true rfl) (q)
  refine loopFrom (N := t) (P := fun k => skT tp spB t a = skT tp spB t k → Rch (mX13_next, 7, 6, 192, oQ Q) 0 0 0 [some (.ref 3), none] [] (r0, x1, h2, rdC t k fr wd nu :: (P ++ E))) a ha ?_ ?_ rfl
  · intro e
    rw [sk_e] at e
    refine r_aload_n dX13_next_0 rfl ?_
    refine r_bipush 32 dX13_next_1 (by decide) ?_
    refine r_bipush 32 dX13_next_3 (by decide) ?_
    refine r_callV (as := [_, _]) okX13_isIn bX13 rfl rfl q1041 dX13_next_5 (Nat.le_of_ble_eq_true rfl) rfl (Nat.le_of_ble_eq_true rfl) (Nat.le_of_ble_eq_true rfl) (Nat.le_of_ble_eq_true rfl) (pX13_isIn hT (by omega) (Nat.le_refl _) ?_)
    refine r_if_eq 24 dX13_next_8 (by decide) (fun _ => ?_) (fun c_ => absurd (by simp [b2i]) c_)
    exact htok t (Nat.le_refl _) e _ _ _
  · intro k hk1 hk2 ih e
    have hd : decide (k < t) = true := by simpa using hk2
    by_cases c : spB (tp k) = true
    · rw [sk_t hk2 c] at e
      have c' : tp k = 32 := by simpa [spB] using c
      refine r_aload_n dX13_next_0 rfl ?_
      refine r_bipush 32 dX13_next_1 (by decide) ?_
      refine r_bipush 32 dX13_next_3 (by decide) ?_
      refine r_callV (as := [_, _]) okX13_isIn bX13 rfl rfl q1041 dX13_next_5 (Nat.le_of_ble_eq_true rfl) rfl (Nat.le_of_ble_eq_true rfl) (Nat.le_of_ble_eq_true rfl) (Nat.le_of_ble_eq_true rfl) (pX13_isIn hT (by omega) (by omega) ?_)
      refine r_if_eq 24 dX13_next_8 (by decide) (fun c_ => absurd c_ (by rw [hd, Bool.true_and, c']; decide)) (fun _ => ?_)
      refine r_aload_n dX13_next_11 rfl ?_
      refine r_dup dX13_next_12 rfl ?_
      refine r_get bX13 3 (by decide) q1014 dX13_next_13 rfl rfl ?_
      refine r_iconst 1 dX13_next_16 (by decide) ?_
      refine r_iadd dX13_next_17 ?_
      rw [nI_1]
      refine r_put bX13 3 (by decide) rfl q1014 dX13_next_18 rfl rfl rfl (Nat.le_of_ble_eq_true rfl) ?_
      refine r_goto 0 dX13_next_21 (by decide) ?_
      exact ih e
    · rw [sk_f hk2 c] at e
      have c' : inB (tp k) 32 32 = false := by
        by_cases z : inB (tp k) 32 32 = true
        · unfold inB at z
          simp only [Bool.and_eq_true, decide_eq_true_eq] at z
          exact absurd (by simpa [spB] using Int32.le_antisymm z.2 z.1) c
        · exact Bool.not_eq_true _ |>.mp z
      refine r_aload_n dX13_next_0 rfl ?_
      refine r_bipush 32 dX13_next_1 (by decide) ?_
      refine r_bipush 32 dX13_next_3 (by decide) ?_
      refine r_callV (as := [_, _]) okX13_isIn bX13 rfl rfl q1041 dX13_next_5 (Nat.le_of_ble_eq_true rfl) rfl (Nat.le_of_ble_eq_true rfl) (Nat.le_of_ble_eq_true rfl) (Nat.le_of_ble_eq_true rfl) (pX13_isIn hT (by omega) (by omega) ?_)
      refine r_if_eq 24 dX13_next_8 (by decide) (fun _ => ?_) (fun c_ => absurd (by rw [hd, Bool.true_and, c']; rfl) c_)
      exact htok k (by omega) e _ _ _
end RN
