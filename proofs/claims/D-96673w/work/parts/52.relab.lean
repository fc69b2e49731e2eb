set_option maxRecDepth 100000
/-! other labels for the same cells (at the law: what was made lies in the dyn region, and is laid anew; what is forgotten is opaque) -/
theorem rv_rv (sg ρ : Nat → Nat) (v : Value) : rv (fun a => sg (ρ a)) v = rv sg (rv ρ v) := by cases v <;> rfl
theorem rg_opq (G : GX) (sg : Nat → Nat) (r : Nat) : ∀ (k i : Nat), rg G sg r i (List.replicate k (.inr (99, []))) = []
  | 0, _ => rfl
  | k + 1, i => by
    rw [List.replicate_succ]
    show (if kn (.inr (99, [])) = true then _ else rg G sg r (i + 1) (List.replicate k (.inr (99, [])))) = []
    rw [if_neg (by decide)]
    exact rg_opq G sg r k (i + 1)
theorem Rch.relabel {J : Jb} {ce sl pc : Nat} {lv : List (Option Value)} {st : List Value} {h : AHp} (ρ : Nat → Nat) (lv' : List (Option Value)) (st' : List Value) (h' : AHp) (is : List Nat)
    (hJ : ∀ x k, J.2.2.2.2 x k → ∃ v : Option Value, x = .inl v ∧ (∀ sg, v.map (rv sg) = v) ∧ ∀ k2, J.2.2.2.2 x k2)
    (h0 : h'.2.2.2 = []) (hdyn : ∀ i, ρ (8 * i + 3) = 8 * (h.2.2.2.length + i) + 3) (h4 : ∀ i, ρ (8 * i + 4) = 8 * i + 4)
    (hnd : va_nd is = true) (hw : ∀ (G : GX) (sg : Nat → Nat), is.map (fun i => (wso G sg h)[i]?) = (wso G (fun a => sg (ρ a)) h').map some)
    (hlv : ∀ (i : Nat) (v : Value), lv'[i]? = some (some v) → lv[i]? = some (some (rv ρ v))) (hst : st = st'.map (rv ρ)) (k : Rch J ce sl pc lv' st' h') : Rch J ce sl pc lv st h := by
  intro l G sg R p e s m args below meth c H locs ls hR C hl hH hS
  have key : ∀ (k : Nat) (q : Nat × va_E), (wso G (fun a => sg (ρ a)) h')[k]? = some q → ∃ i, is[k]? = some i ∧ (wso G sg h)[i]? = some q := by
    intro k q hk
    have h1 : (is.map (fun i => (wso G sg h)[i]?))[k]? = some (some q) := by rw [hw G sg, List.getElem?_map, hk]; rfl
    rw [List.getElem?_map] at h1
    match hi : is[k]? with
    | none => rw [hi] at h1; cases h1
    | some i =>
      rw [hi] at h1
      exact ⟨i, rfl, Option.some.inj h1⟩
  have hH' : Hd G (fun a => sg (ρ a)) h' H := by
    refine ⟨fun k q hk => ?_, hH.2.1.sub is hnd (hw G sg), hH.2.2.1, fun i => ?_, fun i => ?_⟩
    · obtain ⟨i, -, hi⟩ := key k q hk
      exact hH.1 i q hi
    · rw [h0]
      show sg (ρ (8 * (0 + i) + 3)) = H.size + i
      rw [Nat.zero_add, hdyn i]
      exact hH.2.2.2.1 i
    · show sg (ρ (8 * i + 4)) = _
      rw [h4 i]
      exact hH.2.2.2.2 i
  have hl' : LvH (fun a => sg (ρ a)) ls J.1.2.2.1 lv' := ⟨hl.1, hl.2.1, fun i v hi => by rw [rv_rv]; exact hl.2.2 i _ (hlv i v hi)⟩
  have K := k l G (fun a => sg (ρ a)) R p e s m args below meth c H locs ls hR C hl' hH' hS
  have e1 : st'.map (rv (fun a => sg (ρ a))) = st.map (rv sg) := by
    rw [hst, List.map_map]
    exact List.map_congr_left (fun v _ => rv_rv sg ρ v)
  rw [e1] at K
  refine W.mono (fun t ht => ?_) K
  obtain ⟨o, g1, g2, ⟨x, k', g3, g4, g5, g6⟩, L, g7, g8⟩ := ht
  obtain ⟨v, rfl, hv, hq2⟩ := hJ x k' g4
  have esz : H.size + k'.2.2.2.length = t.heap.size := by
    have a1 := hH'.2.2.2.1 k'.2.2.2.length
    have a2 := g5.2.2.2.1 0
    rw [h0] at a1
    have a1 : sg (ρ (8 * (0 + k'.2.2.2.length) + 3)) = H.size + k'.2.2.2.length := a1
    have a2 : sg (ρ (8 * k'.2.2.2.length + 3)) = t.heap.size := a2
    rw [Nat.zero_add] at a1
    exact a1.symm.trans a2
  refine ⟨o, g1, g2, ⟨.inl v, ([], [], [], List.replicate (h.2.2.2.length + k'.2.2.2.length) (.inr (99, []))), ?_, hq2 _, ?_, g6⟩, L, g7, g8⟩
  · rw [g3]
    show Outcome.returned (v.map (rv (fun a => sg (ρ a)))) = Outcome.returned (v.map (rv sg))
    rw [hv, hv]
  · have ew : wso G sg ([], [], [], List.replicate (h.2.2.2.length + k'.2.2.2.length) (.inr (99, []))) = [] := by
      show [] ++ ([] ++ ([] ++ rg G sg 3 0 (List.replicate (h.2.2.2.length + k'.2.2.2.length) (.inr (99, []))))) = []
      rw [rg_opq]
      rfl
    refine ⟨?_, ?_, g5.2.2.1, fun i => ?_, hH.2.2.2.2⟩
    · rw [ew]
      intro z q hz
      simp at hz
    · rw [ew]
      exact ⟨fun i j p q hi => by simp at hi, fun z q hz => by simp at hz⟩
    · show sg (8 * ((List.replicate (h.2.2.2.length + k'.2.2.2.length) (Sum.inr (99, []) : AC)).length + i) + 3) = t.heap.size + i
      rw [List.length_replicate, Nat.add_assoc, hH.2.2.2.1, ← esz]
      omega
