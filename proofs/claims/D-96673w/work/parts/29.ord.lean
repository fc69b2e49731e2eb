set_option maxRecDepth 100000
/-! plain words: who looks when -/
theorem r_forget {J : Jb} {ce sl pc : Nat} {lv : List (Option Value)} {st : List Value} {h : AHp} (i : Nat) (kk : Rch J ce sl pc (lv.set i none) st h) : Rch J ce sl pc lv st h := by
  intro l G sg R p e s m args below meth c H locs ls hR C hl hH hS
  refine kk l G sg R p e s m args below meth c H locs ls hR C ⟨hl.1, hl.2.1, fun k v hk => ?_⟩ hH hS
  by_cases hj : k = i
  · subst hj
    have hlt := (List.getElem?_eq_some_iff.mp hk).1
    rw [List.length_set] at hlt
    rw [List.getElem?_set_self hlt] at hk
    cases hk
  · rw [List.getElem?_set_ne (Ne.symm hj)] at hk
    exact hl.2.2 k v hk
def Srt (ag : Nat → Int32) (L : List Nat) : Prop := L.Pairwise (fun a b => ag a ≤ ag b)
theorem insO_mem (ag : Nat → Int32) (l : Nat) : ∀ (L : List Nat) (x : Nat), x ∈ insO ag l L ↔ x = l ∨ x ∈ L
  | [], x => by simp [insO]
  | y :: L, x => by
    simp only [insO]
    split
    · simp
    · rw [List.mem_cons, insO_mem ag l L x, List.mem_cons]
      constructor
      · rintro (h | h | h)
        · exact Or.inr (Or.inl h)
        · exact Or.inl h
        · exact Or.inr (Or.inr h)
      · rintro (h | h | h)
        · exact Or.inr (Or.inl h)
        · exact Or.inl h
        · exact Or.inr (Or.inr h)
theorem insO_len (ag : Nat → Int32) (l : Nat) : ∀ L : List Nat, (insO ag l L).length = L.length + 1
  | [] => rfl
  | y :: L => by
    simp only [insO]
    split
    · rfl
    · simp [insO_len ag l L]
theorem insO_srt (ag : Nat → Int32) (l : Nat) : ∀ L : List Nat, Srt ag L → Srt ag (insO ag l L)
  | [], _ => by simp [insO, Srt]
  | y :: L, h => by
    have h' : (y :: L).Pairwise (fun a b => ag a ≤ ag b) := h
    rw [List.pairwise_cons] at h'
    simp only [insO]
    split
    · rename_i hlt
      show List.Pairwise _ _
      rw [List.pairwise_cons]
      refine ⟨fun z hz => ?_, h⟩
      rcases List.mem_cons.mp hz with e | e
      · rw [e]; exact Int32.le_of_lt hlt
      · exact Int32.le_trans (Int32.le_of_lt hlt) (h'.1 z e)
    · rename_i hge
      show List.Pairwise _ _
      rw [List.pairwise_cons]
      refine ⟨fun z hz => ?_, insO_srt ag l L h'.2⟩
      rcases (insO_mem ag l L z).mp hz with e | e
      · rw [e]; exact Int32.not_lt.mp hge
      · exact h'.1 z e
theorem ordL_lt (ag : Nat → Int32) (set : Int32) : ∀ n x, x ∈ ordL ag set n → x < n
  | 0, x, h => by simp [ordL] at h
  | n + 1, x, h => by
    simp only [ordL] at h
    split at h
    · rcases (insO_mem ag n _ x).mp h with e | e
      · omega
      · have := ordL_lt ag set n x e; omega
    · have := ordL_lt ag set n x h; omega
theorem ordL_mem (ag : Nat → Int32) (set : Int32) : ∀ n x, x ∈ ordL ag set n ↔ x < n ∧ hasB set (nI x) = true
  | 0, x => by simp [ordL]
  | n + 1, x => by
    simp only [ordL]
    split
    · rename_i hb
      rw [insO_mem, ordL_mem ag set n x]
      constructor
      · rintro (h | h)
        · exact ⟨by omega, by rw [h]; exact hb⟩
        · exact ⟨by omega, h.2⟩
      · rintro ⟨h1, h2⟩
        by_cases hx : x = n
        · exact Or.inl hx
        · exact Or.inr ⟨by omega, h2⟩
    · rename_i hb
      rw [ordL_mem ag set n x]
      constructor
      · rintro ⟨h1, h2⟩; exact ⟨by omega, h2⟩
      · rintro ⟨h1, h2⟩
        refine ⟨?_, h2⟩
        by_cases hx : x = n
        · rw [hx] at h2; exact absurd h2 hb
        · omega
theorem ordL_len (ag : Nat → Int32) (set : Int32) : ∀ n, (ordL ag set n).length ≤ n
  | 0 => Nat.le_refl _
  | n + 1 => by
    have := ordL_len ag set n
    simp only [ordL]
    split
    · rw [insO_len]; omega
    · omega
theorem ordL_srt (ag : Nat → Int32) (set : Int32) : ∀ n, Srt ag (ordL ag set n)
  | 0 => by simp [ordL, Srt]
  | n + 1 => by
    simp only [ordL]
    split
    · exact insO_srt _ _ _ (ordL_srt ag set n)
    · exact ordL_srt ag set n
/-- where he comes in -/
theorem insO_at (ag : Nat → Int32) (l : Nat) : ∀ (L : List Nat) (i : Nat), i ≤ L.length → (∀ t, t < i → ¬ ag l < ag (L.getD t 0)) → (∀ t, i ≤ t → t < L.length → ag l < ag (L.getD t 0)) → insO ag l L = L.take i ++ l :: L.drop i
  | [], i, h, _, _ => by
    have : i = 0 := by simpa using h
    subst this
    rfl
  | y :: L, 0, _, _, h2 => by
    have := h2 0 (Nat.le_refl _) (by simp)
    simp only [List.getD_cons_zero] at this
    simp [insO, this]
  | y :: L, i + 1, h, h1, h2 => by
    have hn := h1 0 (by omega)
    simp only [List.getD_cons_zero] at hn
    have ih := insO_at ag l L i (by simpa using h) (fun t ht => by simpa using h1 (t + 1) (by omega)) (fun t ht1 ht2 => by simpa using h2 (t + 1) (by omega) (by simpa using ht2))
    simp [insO, hn, ih]
theorem srt_getD {ag : Nat → Int32} : ∀ {L : List Nat}, Srt ag L → ∀ s t, s ≤ t → t < L.length → ag (L.getD s 0) ≤ ag (L.getD t 0)
  | [], _, s, t, _, h => by simp at h
  | y :: L, h, 0, 0, _, _ => Int32.le_refl _
  | y :: L, h, 0, t + 1, _, ht => by
    have h' : (y :: L).Pairwise (fun a b => ag a ≤ ag b) := h
    rw [List.pairwise_cons] at h'
    simp only [List.getD_cons_zero, List.getD_cons_succ]
    have ht' : t < L.length := by simpa using ht
    refine h'.1 _ ?_
    rw [List.getD_eq_getElem?_getD, List.getElem?_eq_getElem ht']
    exact List.getElem_mem ht'
  | y :: L, h, s + 1, 0, hst, _ => by omega
  | y :: L, h, s + 1, t + 1, hst, ht => by
    have h' : (y :: L).Pairwise (fun a b => ag a ≤ ag b) := h
    rw [List.pairwise_cons] at h'
    simp only [List.getD_cons_succ]
    exact srt_getD h'.2 s t (by omega) (by simpa using ht)
theorem getD_mem {L : List Nat} {t : Nat} (h : t < L.length) : L.getD t 0 ∈ L := by
  rw [List.getD_eq_getElem?_getD, List.getElem?_eq_getElem h]
  exact List.getElem_mem h
/-- the array's first places hold the list -/
def OdL (od : Nat → Int32) (L : List Nat) : Prop := ∀ t, t < L.length → od t = nI (L.getD t 0)
theorem getD_mid {L : List Nat} {i l t : Nat} (hi : i ≤ L.length) : (L.take i ++ l :: L.drop i).getD t 0 = if t < i then L.getD t 0 else if t = i then l else L.getD (t - 1) 0 := by
  simp only [List.getD_eq_getElem?_getD]
  have hl : (L.take i).length = i := by simp; omega
  by_cases h1 : t < i
  · rw [if_pos h1, List.getElem?_append_left (by omega), List.getElem?_take, if_pos h1]
  · rw [if_neg h1, List.getElem?_append_right (by omega), hl]
    by_cases h2 : t = i
    · rw [if_pos h2, h2]; simp
    · rw [if_neg h2, show t - i = (t - i - 1) + 1 by omega, List.getElem?_cons_succ, List.getElem?_drop, show i + (t - i - 1) = t - 1 by omega]
theorem odl_ins {ag : Nat → Int32} {l i : Nat} {L : List Nat} {od : Nat → Int32} (hs : Srt ag L) (hi : i ≤ L.length) (h1 : ∀ t, t < i → od t = nI (L.getD t 0)) (h2 : ∀ t, i ≤ t → t < L.length → od (t + 1) = nI (L.getD t 0)) (h3 : ∀ t, i ≤ t → t < L.length → ag l < ag (L.getD t 0)) (h4 : i = 0 ∨ ag (L.getD (i - 1) 0) ≤ ag l) : OdL (upd od i (nI l)) (insO ag l L) := by
  have e := insO_at ag l L i hi (fun t ht => by
    rcases h4 with h | h
    · omega
    · exact Int32.not_lt.mpr (Int32.le_trans (srt_getD hs t (i - 1) (by omega) (by omega)) h)) h3
  intro t ht
  rw [insO_len] at ht
  rw [e, getD_mid hi]
  by_cases a1 : t < i
  · rw [if_pos a1, pk_un (by omega), h1 t a1]
  · rw [if_neg a1]
    by_cases a2 : t = i
    · rw [if_pos a2, a2, pk_us]
    · rw [if_neg a2, pk_un a2, show t = (t - 1) + 1 by omega, h2 (t - 1) (by omega) (by omega)]
      simp
