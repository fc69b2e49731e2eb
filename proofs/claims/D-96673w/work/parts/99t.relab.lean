set_option maxRecDepth 100000
/-! other labels for the same cells, at the law: by labels -/
def lbG (r : Nat) : Nat → List AC → List (Nat × AC)
  | _, [] => []
  | i, c :: l => if kn c = true then (8 * i + r, c) :: lbG r (i + 1) l else lbG r (i + 1) l
theorem rg_lb (G : GX) (sg : Nat → Nat) (r : Nat) : ∀ (l : List AC) (i : Nat), rg G sg r i l = (lbG r i l).map (fun q => (sg q.1, ae G sg q.2))
  | [], _ => rfl
  | c :: l, i => by
    show (if kn c = true then (sg (8 * i + r), ae G sg c) :: rg G sg r (i + 1) l else rg G sg r (i + 1) l) = (if kn c = true then (8 * i + r, c) :: lbG r (i + 1) l else lbG r (i + 1) l).map _
    rw [rg_lb G sg r l (i + 1)]
    split <;> rfl
theorem lb_mem {r : Nat} : ∀ (l : List AC) (i : Nat) (q : Nat × AC), q ∈ lbG r i l → ∃ j, l[j]? = some q.2 ∧ q.1 = 8 * (i + j) + r ∧ kn q.2 = true
  | [], _, q, h => by simp [lbG] at h
  | c :: l, i, q, h => by
    rw [lbG] at h
    by_cases hk : kn c = true
    · rw [if_pos hk, List.mem_cons] at h
      rcases h with rfl | h
      · exact ⟨0, rfl, rfl, hk⟩
      · obtain ⟨j, h1, h2, h3⟩ := lb_mem l (i + 1) q h
        exact ⟨j + 1, h1, by rw [h2]; omega, h3⟩
    · rw [if_neg hk] at h
      obtain ⟨j, h1, h2, h3⟩ := lb_mem l (i + 1) q h
      exact ⟨j + 1, h1, by rw [h2]; omega, h3⟩
theorem lb_of {r : Nat} : ∀ (l : List AC) (i j : Nat) (c : AC), l[j]? = some c → kn c = true → (8 * (i + j) + r, c) ∈ lbG r i l
  | [], _, j, c, h, _ => by simp at h
  | d :: l, i, 0, c, h, hk => by
    have h : d = c := by simpa using h
    subst h
    rw [lbG, if_pos hk]
    exact List.mem_cons_self
  | d :: l, i, j + 1, c, h, hk => by
    have h : l[j]? = some c := by simpa using h
    have := lb_of (r := r) l (i + 1) j c h hk
    rw [show i + 1 + j = i + (j + 1) by omega] at this
    rw [lbG]
    split
    · exact List.mem_cons_of_mem _ this
    · exact this
theorem lb_nd {r : Nat} : ∀ (l : List AC) (i : Nat), ((lbG r i l).map Prod.fst).Nodup
  | [], _ => List.nodup_nil
  | c :: l, i => by
    rw [lbG]
    split
    · rw [List.map_cons, List.nodup_cons]
      refine ⟨fun h => ?_, lb_nd l (i + 1)⟩
      obtain ⟨q, hq, e⟩ := List.mem_map.mp h
      obtain ⟨j, -, h2, -⟩ := lb_mem l (i + 1) q hq
      have e : q.1 = 8 * i + r := e
      omega
    · exact lb_nd l (i + 1)
def lbA (h : AHp) : List (Nat × AC) := lbG 0 0 h.1 ++ (lbG 1 0 h.2.1 ++ (lbG 2 0 h.2.2.1 ++ lbG 3 0 h.2.2.2))
theorem wso_lb (G : GX) (sg : Nat → Nat) (h : AHp) : wso G sg h = (lbA h).map (fun q => (sg q.1, ae G sg q.2)) := by
  unfold wso lbA
  rw [rg_lb, rg_lb, rg_lb, rg_lb, List.map_append, List.map_append, List.map_append]
theorem lbA_get {h : AHp} {q : Nat × AC} (hq : q ∈ lbA h) : aGet h q.1 = some q.2 ∧ kn q.2 = true := by
  have key : ∀ (r : Nat) (l : List AC), r < 4 → q ∈ lbG r 0 l → q.1 % 8 = r ∧ l[q.1 / 8]? = some q.2 ∧ kn q.2 = true := by
    intro r l hr h
    obtain ⟨j, h1, h2, h3⟩ := lb_mem l 0 q h
    refine ⟨by omega, ?_, h3⟩
    rw [show q.1 / 8 = j by omega]
    exact h1
  unfold lbA at hq
  rw [List.mem_append, List.mem_append, List.mem_append] at hq
  unfold aGet
  rcases hq with hq | hq | hq | hq
  · obtain ⟨h1, h2, h3⟩ := key 0 _ (by omega) hq
    rw [h1]; exact ⟨h2, h3⟩
  · obtain ⟨h1, h2, h3⟩ := key 1 _ (by omega) hq
    rw [h1]; exact ⟨h2, h3⟩
  · obtain ⟨h1, h2, h3⟩ := key 2 _ (by omega) hq
    rw [h1]; exact ⟨h2, h3⟩
  · obtain ⟨h1, h2, h3⟩ := key 3 _ (by omega) hq
    rw [h1]; exact ⟨h2, h3⟩
theorem lbA_of {h : AHp} {a : Nat} {c : AC} (hg : aGet h a = some c) (hk : kn c = true) : (a, c) ∈ lbA h := by
  unfold aGet at hg
  have key : ∀ (r : Nat) (l : List AC), a % 8 = r → l[a / 8]? = some c → (a, c) ∈ lbG r 0 l := by
    intro r l hr h
    have := lb_of (r := r) l 0 (a / 8) c h hk
    rw [show 8 * (0 + a / 8) + r = a by omega] at this
    exact this
  unfold lbA
  rw [List.mem_append, List.mem_append, List.mem_append]
  match e : a % 8, hg with
  | 0, hg => exact Or.inl (key 0 _ e hg)
  | 1, hg => exact Or.inr (Or.inl (key 1 _ e hg))
  | 2, hg => exact Or.inr (Or.inr (Or.inl (key 2 _ e hg)))
  | 3, hg => exact Or.inr (Or.inr (Or.inr (key 3 _ e hg)))
theorem lbA_nd (h : AHp) : ((lbA h).map Prod.fst).Nodup := by
  have key : ∀ (r : Nat) (l : List AC) (a : Nat), a ∈ (lbG r 0 l).map Prod.fst → ∃ j, a = 8 * j + r := by
    intro r l a ha
    obtain ⟨q, hq, rfl⟩ := List.mem_map.mp ha
    obtain ⟨j, -, h2, -⟩ := lb_mem l 0 q hq
    exact ⟨j, by omega⟩
  unfold lbA
  rw [List.map_append, List.map_append, List.map_append]
  refine List.nodup_append.mpr ⟨lb_nd _ _, List.nodup_append.mpr ⟨lb_nd _ _, List.nodup_append.mpr ⟨lb_nd _ _, lb_nd _ _, fun a ha b hb e => ?_⟩, fun a ha b hb e => ?_⟩, fun a ha b hb e => ?_⟩
  · obtain ⟨i, hi⟩ := key 2 _ a ha
    obtain ⟨j, hj⟩ := key 3 _ b hb
    omega
  · obtain ⟨i, hi⟩ := key 1 _ a ha
    rw [List.mem_append] at hb
    rcases hb with hb | hb
    · obtain ⟨j, hj⟩ := key 2 _ b hb
      omega
    · obtain ⟨j, hj⟩ := key 3 _ b hb
      omega
  · obtain ⟨i, hi⟩ := key 0 _ a ha
    rw [List.mem_append, List.mem_append] at hb
    rcases hb with hb | hb | hb
    · obtain ⟨j, hj⟩ := key 1 _ b hb
      omega
    · obtain ⟨j, hj⟩ := key 2 _ b hb
      omega
    · obtain ⟨j, hj⟩ := key 3 _ b hb
      omega
/-- a cell under other labels -/
def cr (ρ : Nat → Nat) (c : AC) : AC := match c with
  | .inl (ty, a) => .inl (ty, ra ρ a)
  | .inr (ci, fs) => .inr (ci, fs.map (rv ρ))
theorem ae_cr (G : GX) (sg ρ : Nat → Nat) (c : AC) : ae G sg (cr ρ c) = ae G (fun a => sg (ρ a)) c := by
  rcases c with ⟨ty, n, x⟩ | ⟨ci, fs⟩
  · show Sum.inl (G.2.1 ty, ra sg (ra ρ (n, x))) = Sum.inl (G.2.1 ty, ra (fun a => sg (ρ a)) (n, x))
    rcases x with x | x | x | x | x
    · rfl
    · rfl
    · rfl
    · rfl
    · have e : (fun j => ((x j).map ρ).map sg) = fun j => (x j).map (fun a => sg (ρ a)) := by
        funext j
        cases x j <;> rfl
      show Sum.inl (G.2.1 ty, (n, Sum.inr (Sum.inr (Sum.inr (Sum.inr (fun j => ((x j).map ρ).map sg)))))) = _
      rw [e]
      rfl
  · show Sum.inr (ci, (fs.map (rv ρ)).map (rv sg)) = Sum.inr (ci, fs.map (rv (fun a => sg (ρ a))))
    rw [List.map_map]
    congr 2
    exact List.map_congr_left (fun v _ => (rv_rv sg ρ v).symm)
theorem kn_cr (ρ : Nat → Nat) (c : AC) : kn (cr ρ c) = kn c := by
  rcases c with ⟨ty, x⟩ | ⟨ci, fs⟩ <;> rfl
theorem nd_at : ∀ (l : List (Nat × AC)) (i j : Nat) (p q : Nat × AC), (l.map Prod.fst).Nodup → l[i]? = some p → l[j]? = some q → p.1 = q.1 → i = j := by
  intro l i j p q hn hi hj e
  have h1 : (l.map Prod.fst)[i]? = some p.1 := by rw [List.getElem?_map, hi]; rfl
  have h2 : (l.map Prod.fst)[j]? = some p.1 := by rw [List.getElem?_map, hj, e]; rfl
  obtain ⟨g1, e1⟩ := List.getElem?_eq_some_iff.mp h1
  exact (List.getElem?_inj g1 hn).mp (h1.trans h2.symm)
theorem Hd.relab {G : GX} {sg : Nat → Nat} {h h' : AHp} {H : Heap} (ρ : Nat → Nat) (h0 : h'.2.2.2 = []) (hdyn : ∀ i, ρ (8 * i + 3) = 8 * (h.2.2.2.length + i) + 3) (h4 : ∀ i, ρ (8 * i + 4) = 8 * i + 4)
    (hc : ∀ a c, aGet h' a = some c → kn c = true → aGet h (ρ a) = some (cr ρ c)) (hinj : ∀ a b c d, aGet h' a = some c → aGet h' b = some d → ρ a = ρ b → a = b) (hH : Hd G sg h H) : Hd G (fun a => sg (ρ a)) h' H := by
  have key : ∀ (k : Nat) (q : Nat × va_E), (wso G (fun a => sg (ρ a)) h')[k]? = some q → ∃ u : Nat × AC, (lbA h')[k]? = some u ∧ q = (sg (ρ u.1), ae G (fun a => sg (ρ a)) u.2) ∧ ∃ i : Nat, (lbA h)[i]? = some (ρ u.1, cr ρ u.2) ∧ (wso G sg h)[i]? = some q := by
    intro k q hk
    rw [wso_lb, List.getElem?_map] at hk
    match hu : (lbA h')[k]? with
    | none => rw [hu] at hk; cases hk
    | some u =>
      rw [hu] at hk
      have hk : (sg (ρ u.1), ae G (fun a => sg (ρ a)) u.2) = q := Option.some.inj hk
      obtain ⟨g1, g2⟩ := lbA_get (List.mem_of_getElem? hu)
      have g3 := lbA_of (hc _ _ g1 g2) (by rw [kn_cr]; exact g2)
      obtain ⟨i, hi⟩ := List.getElem?_of_mem g3
      refine ⟨u, rfl, hk.symm, i, hi, ?_⟩
      rw [wso_lb, List.getElem?_map, hi, ← hk]
      show some (sg (ρ u.1), ae G sg (cr ρ u.2)) = _
      rw [ae_cr]
  refine ⟨fun k q hk => ?_, ⟨fun i j p q hi hj e => ?_, fun k q hk => ?_⟩, hH.2.2.1, fun i => ?_, fun i => ?_⟩
  · obtain ⟨u, -, -, i, -, hi⟩ := key k q hk
    exact hH.1 i q hi
  · obtain ⟨u, u1, -, a, a1, a2⟩ := key i p hi
    obtain ⟨v, v1, -, b, b1, b2⟩ := key j q hj
    have e1 := hH.2.1.1 a b p q a2 b2 e
    subst e1
    rw [a1] at b1
    have e2 : ρ u.1 = ρ v.1 := (Prod.mk.inj (Option.some.inj b1)).1
    have e3 := hinj _ _ _ _ (lbA_get (List.mem_of_getElem? u1)).1 (lbA_get (List.mem_of_getElem? v1)).1 e2
    exact nd_at (lbA h') i j u v (lbA_nd h') u1 v1 e3
  · obtain ⟨u, -, -, i, -, hi⟩ := key k q hk
    exact hH.2.1.2 i q hi
  · rw [h0]
    show sg (ρ (8 * (0 + i) + 3)) = H.size + i
    rw [Nat.zero_add, hdyn i]
    exact hH.2.2.2.1 i
  · show sg (ρ (8 * i + 4)) = _
    rw [h4 i]
    exact hH.2.2.2.2 i
theorem RchX.relab {P : GX → Prop} {J : Jb} {ce sl pc : Nat} {lv : List (Option Value)} {st : List Value} {h : AHp} (ρ : Nat → Nat) (lv' : List (Option Value)) (st' : List Value) (h' : AHp)
    (hJ : ∀ x k, J.2.2.2.2 x k → ∃ v : Option Value, x = .inl v ∧ (∀ sg, v.map (rv sg) = v) ∧ ∀ k2, J.2.2.2.2 x k2)
    (h0 : h'.2.2.2 = []) (hdyn : ∀ i, ρ (8 * i + 3) = 8 * (h.2.2.2.length + i) + 3) (h4 : ∀ i, ρ (8 * i + 4) = 8 * i + 4)
    (hc : ∀ a c, aGet h' a = some c → kn c = true → aGet h (ρ a) = some (cr ρ c)) (hinj : ∀ a b c d, aGet h' a = some c → aGet h' b = some d → ρ a = ρ b → a = b)
    (hlv : ∀ (i : Nat) (v : Value), lv'[i]? = some (some v) → lv[i]? = some (some (rv ρ v))) (hst : st = st'.map (rv ρ)) (k : RchX P J ce sl pc lv' st' h') : RchX P J ce sl pc lv st h := by
  intro l G sg R p e s m args below meth c H locs ls hR C hl hH hS hP
  have hH' : Hd G (fun a => sg (ρ a)) h' H := hH.relab ρ h0 hdyn h4 hc hinj
  have hl' : LvH (fun a => sg (ρ a)) ls J.1.2.2.1 lv' := ⟨hl.1, hl.2.1, fun i v hi => by rw [rv_rv]; exact hl.2.2 i _ (hlv i v hi)⟩
  have K := k l G (fun a => sg (ρ a)) R p e s m args below meth c H locs ls hR C hl' hH' hS hP
  have e1 : st'.map (rv (fun a => sg (ρ a))) = st.map (rv sg) := by
    rw [hst, List.map_map]
    exact List.map_congr_left (fun v _ => rv_rv sg ρ v)
  rw [e1] at K
  refine W.mono (fun t ht => ?_) K
  obtain ⟨o, g1, g2, ⟨x, k', g3, g4, g5, g6⟩, L, g7, g8⟩ := ht
  obtain ⟨v, rfl, hv, hq2⟩ := hJ x k' g4
  have esz : H.size + k'.2.2.2.length = t.heap.size := by
    have a1 := hH'.2.2.2.1 k'.2.2.2.length
    have a2 := g5.2.2.2.1 0
    rw [h0] at a1
    have a1 : sg (ρ (8 * (0 + k'.2.2.2.length) + 3)) = H.size + k'.2.2.2.length := a1
    have a2 : sg (ρ (8 * k'.2.2.2.length + 3)) = t.heap.size := a2
    rw [Nat.zero_add] at a1
    exact a1.symm.trans a2
  refine ⟨o, g1, g2, ⟨.inl v, ([], [], [], List.replicate (h.2.2.2.length + k'.2.2.2.length) (.inr (99, []))), ?_, hq2 _, ?_, g6⟩, L, g7, g8⟩
  · rw [g3]
    show Outcome.returned (v.map (rv (fun a => sg (ρ a)))) = Outcome.returned (v.map (rv sg))
    rw [hv, hv]
  · have ew : wso G sg ([], [], [], List.replicate (h.2.2.2.length + k'.2.2.2.length) (.inr (99, []))) = [] := by
      show [] ++ ([] ++ ([] ++ rg G sg 3 0 (List.replicate (h.2.2.2.length + k'.2.2.2.length) (.inr (99, []))))) = []
      rw [rg_opq]
      rfl
    refine ⟨?_, ?_, g5.2.2.1, fun i => ?_, hH.2.2.2.2⟩
    · rw [ew]
      intro z q hz
      simp at hz
    · rw [ew]
      exact ⟨fun i j p q hi => by simp at hi, fun z q hz => by simp at hz⟩
    · show sg (8 * ((List.replicate (h.2.2.2.length + k'.2.2.2.length) (Sum.inr (99, []) : AC)).length + i) + 3) = t.heap.size + i
      rw [List.length_replicate, Nat.add_assoc, hH.2.2.2.1, ← esz]
      omega
