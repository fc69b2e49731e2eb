set_option maxRecDepth 100000
/-! the component: panes laid anew -/
def pnS (h : AHp) (a s : Nat) (f : Int32) (P : Nat → Int32) : AHp := aSet (aSet h a (.inr (2, [.ref s, .int f]))) s (.inl (.int, 12, .inl P))
theorem aSet_2 {h : AHp} {a : Nat} {c d : AC} : aSet (aSet h a c) a d = aSet h a d := by
  unfold aSet
  generalize a % 8 = x
  match x with
  | 0 => simp [List.set_set]
  | 1 => simp [List.set_set]
  | 2 => simp [List.set_set]
  | 3 => simp [List.set_set]
  | _ + 4 => rfl
theorem aSet_comm {h : AHp} {a b : Nat} {c d : AC} (hne : a ≠ b) : aSet (aSet h a c) b d = aSet (aSet h b d) a c := by
  have hd : a % 8 = b % 8 → a / 8 ≠ b / 8 := fun e1 e2 => hne (by omega)
  unfold aSet
  generalize a % 8 = x at hd ⊢
  generalize b % 8 = y at hd ⊢
  match x, y, hd with
  | 0, 0, hd => simp only; rw [List.set_comm _ _ (hd rfl)]
  | 1, 1, hd => simp only; rw [List.set_comm _ _ (hd rfl)]
  | 2, 2, hd => simp only; rw [List.set_comm _ _ (hd rfl)]
  | 3, 3, hd => simp only; rw [List.set_comm _ _ (hd rfl)]
  | 0, 1, _ | 0, 2, _ | 0, 3, _ | 0, _ + 4, _ => rfl
  | 1, 0, _ | 1, 2, _ | 1, 3, _ | 1, _ + 4, _ => rfl
  | 2, 0, _ | 2, 1, _ | 2, 3, _ | 2, _ + 4, _ => rfl
  | 3, 0, _ | 3, 1, _ | 3, 2, _ | 3, _ + 4, _ => rfl
  | _ + 4, 0, _ | _ + 4, 1, _ | _ + 4, 2, _ | _ + 4, 3, _ => rfl
  | _ + 4, _ + 4, _ => rfl
theorem set_id {l : List AC} {i : Nat} {c : AC} (h : l[i]? = some c) : l.set i c = l := by
  apply List.ext_getElem?
  intro j
  by_cases e : i = j
  · subst e
    rw [List.getElem?_set_self (List.getElem?_eq_some_iff.mp h).1, h]
  · rw [List.getElem?_set_ne e]
theorem aSet_id {h : AHp} {a : Nat} {c : AC} (h0 : aGet h a = some c) : aSet h a c = h := by
  unfold aGet at h0
  unfold aSet
  generalize a % 8 = x at h0 ⊢
  obtain ⟨l0, l1, l2, l3⟩ := h
  match x, h0 with
  | 0, h0 => exact congrArg (fun z => (z, l1, l2, l3)) (set_id h0)
  | 1, h0 => exact congrArg (fun z => (l0, z, l2, l3)) (set_id h0)
  | 2, h0 => exact congrArg (fun z => (l0, l1, z, l3)) (set_id h0)
  | 3, h0 => exact congrArg (fun z => (l0, l1, l2, z)) (set_id h0)
  | _ + 4, h0 => rfl
theorem pnS_id {h : AHp} {a s : Nat} {f : Int32} {P : Nat → Int32} (ha : aGet h a = some (.inr (2, [.ref s, .int f]))) (hs : aGet h s = some (.inl (.int, 12, .inl P))) : pnS h a s f P = h := by
  unfold pnS
  rw [aSet_id ha, aSet_id hs]
theorem pnS_pnS {h : AHp} {a s : Nat} {f g : Int32} {P R : Nat → Int32} (hne : a ≠ s) : pnS (pnS h a s f P) a s g R = pnS h a s g R := by
  unfold pnS
  rw [aSet_comm (a := s) (b := a) (Ne.symm hne), aSet_2, aSet_2]
theorem pnS_a {h : AHp} {a s : Nat} {f g : Int32} {P R : Nat → Int32} (hne : a ≠ s) (ha : aGet h a = some (.inr (2, [.ref s, .int f]))) : aGet (pnS h a s g R) a = some (.inr (2, [.ref s, .int g])) := by
  unfold pnS
  rw [aGet_ne (Ne.symm hne)]
  exact aGet_same ha
theorem pnS_s {h : AHp} {a s : Nat} {g : Int32} {P R : Nat → Int32} (hne : a ≠ s) (hs : aGet h s = some (.inl (.int, 12, .inl P))) : aGet (pnS h a s g R) s = some (.inl (.int, 12, .inl R)) := by
  unfold pnS
  exact aGet_same ((aGet_ne hne).trans hs)
theorem pnS_o {h : AHp} {a s o : Nat} {g : Int32} {R : Nat → Int32} (h1 : a ≠ o) (h2 : s ≠ o) : aGet (pnS h a s g R) o = aGet h o := by
  unfold pnS
  rw [aGet_ne h2, aGet_ne h1]
