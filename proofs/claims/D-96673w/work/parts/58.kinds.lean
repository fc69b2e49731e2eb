set_option maxRecDepth 100000
/-! the component: one look in plain words -/
def ocF (p : Int32) (P : Nat → Int32) (f : Int32) : EV := if p = -1 then (P, 0, f) else (upd P p.toNatClampNeg (-1), 1 <<< (p &&& 31), if f = -1 then p else f)
theorem oc_m1 {P : Nat → Int32} {f : Int32} : ocF (-1) P f = (P, 0, f) := if_pos rfl
theorem oc_q {P : Nat → Int32} {f : Int32} {q : Nat} (hq : q < 2 ^ 31) : ocF (nI q) P f = (upd P q (-1), 1 <<< (nI q &&& 31), if f = -1 then nI q else f) := by
  unfold ocF
  rw [if_neg (nI_m1 hq), nI_clamp hq]
/-- nothing taken: nothing first -/
def TfI (E : EV) : Prop := E.2.1 = 0 ↔ E.2.2 = -1
theorem tk_oc {p : Int32} {E : EV} (h : TfI E) : tkF p E = ((ocF p E.1 E.2.2).1, E.2.1 ||| (ocF p E.1 E.2.2).2.1, (ocF p E.1 E.2.2).2.2) := by
  unfold tkF ocF
  by_cases g : p = -1
  · rw [if_pos g, if_pos g]
    show E = (E.1, E.2.1 ||| 0, E.2.2)
    rw [or0]
  · rw [if_neg g, if_neg g]
    by_cases g2 : E.2.1 = 0
    · rw [if_pos g2, if_pos (h.mp g2)]
    · rw [if_neg g2, if_neg (fun z => g2 (h.mpr z))]
theorem tk_TfI {p : Int32} {E : EV} (hp : PlN p) (h : TfI E) : TfI (tkF p E) := by
  rcases hp with rfl | ⟨q, hq, rfl⟩
  · exact h
  · have e : tkF (nI q) E = (upd E.1 q (-1), E.2.1 ||| (1 <<< (nI q &&& 31)), if E.2.1 = 0 then nI q else E.2.2) := by
      unfold tkF
      rw [if_neg (nI_m1 (by omega)), nI_clamp (by omega)]
    rw [e]
    constructor
    · intro z
      have z : E.2.1 ||| (1 <<< (nI q &&& 31)) = 0 := z
      have h2 := has_self (t := E.2.1) hq
      rw [z, has_0 hq] at h2
      cases h2
    · intro z
      have z : (if E.2.1 = 0 then nI q else E.2.2) = -1 := z
      by_cases g : E.2.1 = 0
      · rw [if_pos g] at z
        exact absurd z (nI_m1 (by omega))
      · rw [if_neg g] at z
        exact absurd (h.mpr z) g
theorem oc_ThI {p : Int32} {P : Nat → Int32} {f : Int32} (hp : PlN p) (h : ThI P) : ThI (ocF p P f).1 := by
  rcases hp with rfl | ⟨q, hq, rfl⟩
  · rw [oc_m1]; exact h
  · rw [oc_q (by omega)]; exact upd_ThI h
section PP
variable {h : AHp} {a s : Nat} {f : Int32} {P : Nat → Int32} {Q : Option Value → AHp → Prop}
theorem pX7_on1_X7 {o w : Nat} {nu lk : Int32} (hw : w < 8) (ho : aGet h o = some (.inr (7, [.int nu, .int (nI w)]))) (ha : aGet h a = some (.inr (2, [.ref s, .int f]))) (hs : aGet h s = some (.inl (.int, 12, .inl P))) (hne : a ≠ s) (hP : ThI P) (hQ : Q (some (.int (ocF (loF (nI w) lk P) P f).2.1)) (pnS h a s (ocF (loF (nI w) lk P) P f).2.2 (ocF (loF (nI w) lk P) P f).1)) : AMet mX7_one 3 0 0 [.ref o, .ref a, .int (lk ||| (1 <<< (nI w &&& 31)))] h Q := by
  refine pX7_one_X7 hw ho ha hs hne hP (fun e => ?_) (fun q hq e => ?_)
  · rw [e, oc_m1] at hQ
    have hQ : Q (some (.int 0)) (pnS h a s f P) := hQ
    rw [pnS_id ha hs] at hQ
    exact hQ
  · rw [e, oc_q (by omega)] at hQ
    exact hQ
theorem pX7_on1_X8 {o w : Nat} {nu lk : Int32} (hw : w < 8) (ho : aGet h o = some (.inr (8, [.int nu, .int (nI w)]))) (ha : aGet h a = some (.inr (2, [.ref s, .int f]))) (hs : aGet h s = some (.inl (.int, 12, .inl P))) (hne : a ≠ s) (hP : ThI P) (hQ : Q (some (.int (ocF (loF (nI w) lk P) P f).2.1)) (pnS h a s (ocF (loF (nI w) lk P) P f).2.2 (ocF (loF (nI w) lk P) P f).1)) : AMet mX7_one 3 0 0 [.ref o, .ref a, .int (lk ||| (1 <<< (nI w &&& 31)))] h Q := by
  refine pX7_one_X8 hw ho ha hs hne hP (fun e => ?_) (fun q hq e => ?_)
  · rw [e, oc_m1] at hQ
    have hQ : Q (some (.int 0)) (pnS h a s f P) := hQ
    rw [pnS_id ha hs] at hQ
    exact hQ
  · rw [e, oc_q (by omega)] at hQ
    exact hQ
theorem pX7_on1_X9 {o w : Nat} {nu lk : Int32} (hw : w < 8) (ho : aGet h o = some (.inr (9, [.int nu, .int (nI w)]))) (ha : aGet h a = some (.inr (2, [.ref s, .int f]))) (hs : aGet h s = some (.inl (.int, 12, .inl P))) (hne : a ≠ s) (hP : ThI P) (hQ : Q (some (.int (ocF (loF (nI w) lk P) P f).2.1)) (pnS h a s (ocF (loF (nI w) lk P) P f).2.2 (ocF (loF (nI w) lk P) P f).1)) : AMet mX7_one 3 0 0 [.ref o, .ref a, .int (lk ||| (1 <<< (nI w &&& 31)))] h Q := by
  refine pX7_one_X9 hw ho ha hs hne hP (fun e => ?_) (fun q hq e => ?_)
  · rw [e, oc_m1] at hQ
    have hQ : Q (some (.int 0)) (pnS h a s f P) := hQ
    rw [pnS_id ha hs] at hQ
    exact hQ
  · rw [e, oc_q (by omega)] at hQ
    exact hQ
theorem pX7_on1_X10 {o w : Nat} {nu lk : Int32} (hw : w < 8) (ho : aGet h o = some (.inr (10, [.int nu, .int (nI w)]))) (ha : aGet h a = some (.inr (2, [.ref s, .int f]))) (hs : aGet h s = some (.inl (.int, 12, .inl P))) (hne : a ≠ s) (hP : ThI P) (hQ : Q (some (.int (ocF (loF (nI w) lk P) P f).2.1)) (pnS h a s (ocF (loF (nI w) lk P) P f).2.2 (ocF (loF (nI w) lk P) P f).1)) : AMet mX7_one 3 0 0 [.ref o, .ref a, .int (lk ||| (1 <<< (nI w &&& 31)))] h Q := by
  refine pX7_one_X10 hw ho ha hs hne hP (fun e => ?_) (fun q hq e => ?_)
  · rw [e, oc_m1] at hQ
    have hQ : Q (some (.int 0)) (pnS h a s f P) := hQ
    rw [pnS_id ha hs] at hQ
    exact hQ
  · rw [e, oc_q (by omega)] at hQ
    exact hQ
theorem pX7_on1_X11 {o w : Nat} {nu lk : Int32} (hw : w < 8) (ho : aGet h o = some (.inr (11, [.int nu, .int (nI w)]))) (ha : aGet h a = some (.inr (2, [.ref s, .int f]))) (hs : aGet h s = some (.inl (.int, 12, .inl P))) (hne : a ≠ s) (hP : ThI P) (hQ : Q (some (.int (ocF (loF (nI w) lk P) P f).2.1)) (pnS h a s (ocF (loF (nI w) lk P) P f).2.2 (ocF (loF (nI w) lk P) P f).1)) : AMet mX7_one 3 0 0 [.ref o, .ref a, .int (lk ||| (1 <<< (nI w &&& 31)))] h Q := by
  refine pX7_one_X11 hw ho ha hs hne hP (fun e => ?_) (fun q hq e => ?_)
  · rw [e, oc_m1] at hQ
    have hQ : Q (some (.int 0)) (pnS h a s f P) := hQ
    rw [pnS_id ha hs] at hQ
    exact hQ
  · rw [e, oc_q (by omega)] at hQ
    exact hQ
theorem pX7_on1_X12 {o w : Nat} {nu lk : Int32} (hw : w < 8) (ho : aGet h o = some (.inr (12, [.int nu, .int (nI w)]))) (ha : aGet h a = some (.inr (2, [.ref s, .int f]))) (hs : aGet h s = some (.inl (.int, 12, .inl P))) (hne : a ≠ s) (hP : ThI P) (hQ : Q (some (.int (ocF (loF (nI w) lk P) P f).2.1)) (pnS h a s (ocF (loF (nI w) lk P) P f).2.2 (ocF (loF (nI w) lk P) P f).1)) : AMet mX7_one 3 0 0 [.ref o, .ref a, .int (lk ||| (1 <<< (nI w &&& 31)))] h Q := by
  refine pX7_one_X12 hw ho ha hs hne hP (fun e => ?_) (fun q hq e => ?_)
  · rw [e, oc_m1] at hQ
    have hQ : Q (some (.int 0)) (pnS h a s f P) := hQ
    rw [pnS_id ha hs] at hQ
    exact hQ
  · rw [e, oc_q (by omega)] at hQ
    exact hQ
end PP
