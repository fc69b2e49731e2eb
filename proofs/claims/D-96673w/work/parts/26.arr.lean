set_option maxRecDepth 100000
/-! array rows with a known index; loops; counting, finding -/
theorem r_ialdN {J : Jb} {ce sl pc : Nat} {lv : List (Option Value)} {st : List Value} {h : AHp} {a n j : Nat} {f : Nat → Int32} (hd : decode J.1.2.1 pc = .ok (.iaload, 1)) (hg : aGet h a = some (.inl (.int, n, .inl f))) (hj : j < n) (hn : n ≤ 1000) (kk : Rch J ce sl (pc + 1) lv (.int (f j) :: st) h) : Rch J ce sl pc lv (.int (nI j) :: .ref a :: st) h := by
  refine r_iald hd hg (vp_in_nI hj (by omega)) ?_
  rw [nI_clamp (show j < 2 ^ 31 by omega)]
  exact kk
theorem r_baldN {J : Jb} {ce sl pc : Nat} {lv : List (Option Value)} {st : List Value} {h : AHp} {a n j : Nat} {f : Nat → Int32} (hd : decode J.1.2.1 pc = .ok (.baload, 1)) (hg : aGet h a = some (.inl (.byte, n, .inl f))) (hj : j < n) (hn : n ≤ 1000) (kk : Rch J ce sl (pc + 1) lv (.int (f j) :: st) h) : Rch J ce sl pc lv (.int (nI j) :: .ref a :: st) h := by
  refine r_bald hd hg (vp_in_nI hj (by omega)) ?_
  rw [nI_clamp (show j < 2 ^ 31 by omega)]
  exact kk
theorem r_zaldN {J : Jb} {ce sl pc : Nat} {lv : List (Option Value)} {st : List Value} {h : AHp} {a n j : Nat} {f : Nat → Int32} (hd : decode J.1.2.1 pc = .ok (.baload, 1)) (hg : aGet h a = some (.inl (.boolean, n, .inl f))) (hj : j < n) (hn : n ≤ 1000) (kk : Rch J ce sl (pc + 1) lv (.int (f j) :: st) h) : Rch J ce sl pc lv (.int (nI j) :: .ref a :: st) h := by
  refine r_zald hd hg (vp_in_nI hj (by omega)) ?_
  rw [nI_clamp (show j < 2 ^ 31 by omega)]
  exact kk
theorem r_saldN {J : Jb} {ce sl pc : Nat} {lv : List (Option Value)} {st : List Value} {h : AHp} {a n j : Nat} {f : Nat → Int32} (hd : decode J.1.2.1 pc = .ok (.saload, 1)) (hg : aGet h a = some (.inl (.short, n, .inl f))) (hj : j < n) (hn : n ≤ 1000) (kk : Rch J ce sl (pc + 1) lv (.int (f j) :: st) h) : Rch J ce sl pc lv (.int (nI j) :: .ref a :: st) h := by
  refine r_sald hd hg (vp_in_nI hj (by omega)) ?_
  rw [nI_clamp (show j < 2 ^ 31 by omega)]
  exact kk
theorem r_laldN {J : Jb} {ce sl pc : Nat} {lv : List (Option Value)} {st : List Value} {h : AHp} {a n j : Nat} {f : Nat → Int64} (hd : decode J.1.2.1 pc = .ok (.laload, 1)) (hg : aGet h a = some (.inl (.long, n, .inr (.inl f)))) (hj : j < n) (hn : n ≤ 1000) (kk : Rch J ce sl (pc + 1) lv (.long (f j) :: st) h) : Rch J ce sl pc lv (.int (nI j) :: .ref a :: st) h := by
  refine r_lald hd hg (vp_in_nI hj (by omega)) ?_
  rw [nI_clamp (show j < 2 ^ 31 by omega)]
  exact kk
theorem r_iastN {J : Jb} {ce sl pc : Nat} {lv : List (Option Value)} {st : List Value} {h : AHp} {a n j : Nat} {f : Nat → Int32} {x : Int32} (hd : decode J.1.2.1 pc = .ok (.iastore, 1)) (hg : aGet h a = some (.inl (.int, n, .inl f))) (hj : j < n) (hn : n ≤ 1000) (kk : Rch J ce sl (pc + 1) lv st (aSet h a (.inl (.int, n, .inl (upd f j x))))) : Rch J ce sl pc lv (.int x :: .int (nI j) :: .ref a :: st) h := by
  refine r_iast hd hg (vp_in_nI hj (by omega)) ?_
  rw [nI_clamp (show j < 2 ^ 31 by omega)]
  exact kk
theorem r_bastN {J : Jb} {ce sl pc : Nat} {lv : List (Option Value)} {st : List Value} {h : AHp} {a n j : Nat} {f : Nat → Int32} {x : Int32} (hd : decode J.1.2.1 pc = .ok (.bastore, 1)) (hg : aGet h a = some (.inl (.byte, n, .inl f))) (hj : j < n) (hn : n ≤ 1000) (kk : Rch J ce sl (pc + 1) lv st (aSet h a (.inl (.byte, n, .inl (upd f j (vp_nar .byte x)))))) : Rch J ce sl pc lv (.int x :: .int (nI j) :: .ref a :: st) h := by
  refine r_bast hd hg (vp_in_nI hj (by omega)) ?_
  rw [nI_clamp (show j < 2 ^ 31 by omega)]
  exact kk
theorem r_zastN {J : Jb} {ce sl pc : Nat} {lv : List (Option Value)} {st : List Value} {h : AHp} {a n j : Nat} {f : Nat → Int32} {x : Int32} (hd : decode J.1.2.1 pc = .ok (.bastore, 1)) (hg : aGet h a = some (.inl (.boolean, n, .inl f))) (hj : j < n) (hn : n ≤ 1000) (kk : Rch J ce sl (pc + 1) lv st (aSet h a (.inl (.boolean, n, .inl (upd f j (vp_nar .boolean x)))))) : Rch J ce sl pc lv (.int x :: .int (nI j) :: .ref a :: st) h := by
  refine r_zast hd hg (vp_in_nI hj (by omega)) ?_
  rw [nI_clamp (show j < 2 ^ 31 by omega)]
  exact kk
theorem r_sastN {J : Jb} {ce sl pc : Nat} {lv : List (Option Value)} {st : List Value} {h : AHp} {a n j : Nat} {f : Nat → Int32} {x : Int32} (hd : decode J.1.2.1 pc = .ok (.sastore, 1)) (hg : aGet h a = some (.inl (.short, n, .inl f))) (hj : j < n) (hn : n ≤ 1000) (kk : Rch J ce sl (pc + 1) lv st (aSet h a (.inl (.short, n, .inl (upd f j (vp_nar .short x)))))) : Rch J ce sl pc lv (.int x :: .int (nI j) :: .ref a :: st) h := by
  refine r_sast hd hg (vp_in_nI hj (by omega)) ?_
  rw [nI_clamp (show j < 2 ^ 31 by omega)]
  exact kk
theorem r_lastN {J : Jb} {ce sl pc : Nat} {lv : List (Option Value)} {st : List Value} {h : AHp} {a n j : Nat} {f : Nat → Int64} {x : Int64} (hd : decode J.1.2.1 pc = .ok (.lastore, 1)) (hg : aGet h a = some (.inl (.long, n, .inr (.inl f)))) (hj : j < n) (hn : n ≤ 1000) (kk : Rch J ce sl (pc + 1) lv st (aSet h a (.inl (.long, n, .inr (.inl (vp_updL f j x)))))) : Rch J ce sl pc lv (.long x :: .int (nI j) :: .ref a :: st) h := by
  refine r_last hd hg (vp_in_nI hj (by omega)) ?_
  rw [nI_clamp (show j < 2 ^ 31 by omega)]
  exact kk
theorem loopUp {P : Nat → Prop} {N : Nat} (done : P N) (step : ∀ k, k < N → P (k + 1) → P k) : P 0 := by
  have key : ∀ n k, k + n = N → P k := by
    intro n
    induction n with
    | zero => intro k hk; rw [show k = N by omega]; exact done
    | succ n ih => intro k hk; exact step k (by omega) (ih (k + 1) (by omega))
  exact key N 0 (by omega)
/-- .. from a later start -/
theorem loopFrom {P : Nat → Prop} {N : Nat} (a : Nat) (ha : a ≤ N) (done : P N) (step : ∀ k, a ≤ k → k < N → P (k + 1) → P k) : P a := by
  have key : ∀ n k, a ≤ k → k + n = N → P k := by
    intro n
    induction n with
    | zero => intro k _ hk; rw [show k = N by omega]; exact done
    | succ n ih => intro k h1 hk; exact step k h1 (by omega) (ih (k + 1) (by omega) (by omega))
  exact key (N - a) a (Nat.le_refl _) (by omega)
theorem loopDn {P : Nat → Prop} (done : P 0) (step : ∀ k, P k → P (k + 1)) : ∀ N, P N := fun N => by
  induction N with
  | zero => exact done
  | succ n ih => exact step n ih
/-- the first place of a kind, from k on, n places; -1 -/
def fstG (c : Nat → Bool) : Nat → Nat → Int32
  | 0, _ => -1
  | n + 1, k => if c k = true then nI k else fstG c n (k + 1)
def fstI (c : Nat → Bool) (N : Nat) : Int32 := fstG c N 0
theorem fstG_t {c : Nat → Bool} {N k : Nat} (hk : k < N) (h : c k = true) : fstG c (N - k) k = nI k := by
  rw [show N - k = (N - (k + 1)) + 1 by omega, fstG, if_pos h]
theorem fstG_f {c : Nat → Bool} {N k : Nat} (hk : k < N) (h : ¬ c k = true) : fstG c (N - k) k = fstG c (N - (k + 1)) (k + 1) := by
  rw [show N - k = (N - (k + 1)) + 1 by omega, fstG, if_neg h]
/-- the last place of a kind below n; -1 -/
def lstI (c : Nat → Bool) : Nat → Int32
  | 0 => -1
  | n + 1 => if c n = true then nI n else lstI c n
/-- how many of a kind -/
def cntI (c : Nat → Bool) : Nat → Nat
  | 0 => 0
  | n + 1 => cntI c n + (if c n = true then 1 else 0)
/-- the places of a kind as bits -/
def bitsI (c : Nat → Bool) : Nat → Int32
  | 0 => 0
  | n + 1 => bitsI c n ||| (if c n = true then 1 <<< (nI n &&& 31) else 0)
theorem or0 (x : Int32) : x ||| 0 = x := by simp
/-- k < N against a literal bound -/
theorem geF {k N : Nat} (h : k < N) (hN : N < 2 ^ 31) : ¬ nI N ≤ nI k := nI_ge h hN
theorem geT (N : Nat) : nI N ≤ nI N := Int32.le_refl _
