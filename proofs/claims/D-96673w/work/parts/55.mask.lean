set_option maxRecDepth 100000
/-! plain words: the component's masks say what the reference asks -/
theorem ma_like {ow lk x : Int32} {w : Nat} (hw : w < 8) (ew : ow = nI w) (hx : x = -1 ∨ ∃ s, s < 8 ∧ x = nI s) : maB (lk ||| (1 <<< (ow &&& 31))) x = likeB ow lk x := by
  subst ew
  rcases hx with rfl | ⟨s, hs, rfl⟩
  · simp [maB, likeB]
  · unfold maB likeB
    by_cases e : w = s
    · subst e
      rw [has_self (by omega)]
      simp
    · rw [has_or (by omega) (by omega) e]
      have : nI s ≠ nI w := fun z => e ((nI_eq (by omega) (by omega)).mp z).symm
      rw [beq_eq_false_iff_ne.mpr this, Bool.false_or]
theorem ma_own {ow x : Int32} {w : Nat} (hw : w < 8) (ew : ow = nI w) (hx : x = -1 ∨ ∃ s, s < 8 ∧ x = nI s) : maB (1 <<< (ow &&& 31)) x = (x == ow) := by
  have h := ma_like (lk := 0) hw ew hx
  rw [Int32.zero_or] at h
  rw [h]
  subst ew
  rcases hx with rfl | ⟨s, hs, rfl⟩
  · have : ¬ (-1 : Int32) = nI w := fun z => nI_m1 (by omega) z.symm
    simp [likeB, this]
  · unfold likeB
    rw [has_0 (by omega)]
    have : ¬ nI s = -1 := nI_m1 (by omega)
    simp [this]
theorem fstG_congr {c d : Nat → Bool} : ∀ q k, (∀ j, k ≤ j → j < k + q → c j = d j) → fstG c q k = fstG d q k
  | 0, _, _ => rfl
  | q + 1, k, h => by
    simp only [fstG]
    rw [h k (Nat.le_refl _) (by omega), fstG_congr q (k + 1) (fun j h1 h2 => h j (by omega) (by omega))]
theorem lstI_congr {c d : Nat → Bool} : ∀ n, (∀ j, j < n → c j = d j) → lstI c n = lstI d n
  | 0, _ => rfl
  | n + 1, h => by
    simp only [lstI]
    rw [h n (by omega), lstI_congr n (fun j hj => h j (by omega))]
theorem fw_ma {P : Nat → Int32} {ow : Int32} {w : Nat} (hw : w < 8) (ew : ow = nI w) (hP : ThI P) : fstI (fun p => maB (1 <<< (ow &&& 31)) (P p)) 12 = fwF P ow :=
  fstG_congr 12 0 (fun j _ hj => ma_own hw ew (hP j (by omega)))
theorem li_ma {P : Nat → Int32} {ow lk : Int32} {w : Nat} (hw : w < 8) (ew : ow = nI w) (hP : ThI P) : fstI (fun p => maB (lk ||| (1 <<< (ow &&& 31))) (P p)) 12 = fstI (fun q => likeB ow lk (P q)) 12 :=
  fstG_congr 12 0 (fun j _ hj => ma_like hw ew (hP j (by omega)))
theorem la_ma {P : Nat → Int32} {ow lk : Int32} {w : Nat} (hw : w < 8) (ew : ow = nI w) (hP : ThI P) : lstI (fun p => maB (lk ||| (1 <<< (ow &&& 31))) (P p)) 12 = laF ow lk P :=
  lstI_congr 12 (fun j hj => ma_like hw ew (hP j hj))
theorem upd_ThI {P : Nat → Int32} {q : Nat} (h : ThI P) : ThI (upd P q (-1)) := by
  intro j hj
  by_cases e : j = q
  · subst e
    left
    rw [pk_us]
  · rw [pk_un e]
    exact h j hj
