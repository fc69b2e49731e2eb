set_option maxRecDepth 100000
/-! plain words: an evening's looks -/
theorem nI_m1 {k : Nat} (h : k < 2 ^ 31) : ¬ nI k = -1 := by
  intro e
  have h1 := nI_pos' h
  rw [e] at h1
  exact absurd h1 (by decide)
theorem fstG_cases (c : Nat → Bool) : ∀ n k, (fstG c n k = -1 ∧ ∀ j, k ≤ j → j < k + n → c j = false) ∨ ∃ q, k ≤ q ∧ q < k + n ∧ c q = true ∧ fstG c n k = nI q ∧ ∀ j, k ≤ j → j < q → c j = false
  | 0, k => Or.inl ⟨rfl, fun j h1 h2 => by omega⟩
  | n + 1, k => by
    by_cases hc : c k = true
    · exact Or.inr ⟨k, Nat.le_refl _, by omega, hc, by simp [fstG, hc], fun j h1 h2 => by omega⟩
    · have hc' : c k = false := by simpa using hc
      rcases fstG_cases c n (k + 1) with ⟨e, h⟩ | ⟨q, h1, h2, h3, h4, h5⟩
      · refine Or.inl ⟨by simp [fstG, hc', e], fun j h1 h2 => ?_⟩
        by_cases hj : j = k
        · rw [hj]; exact hc'
        · exact h j (by omega) (by omega)
      · refine Or.inr ⟨q, by omega, by omega, h3, by simp [fstG, hc', h4], fun j g1 g2 => ?_⟩
        by_cases hj : j = k
        · rw [hj]; exact hc'
        · exact h5 j (by omega) g2
theorem fstI_cases (c : Nat → Bool) (N : Nat) : (fstI c N = -1 ∧ ∀ j, j < N → c j = false) ∨ ∃ q, q < N ∧ c q = true ∧ fstI c N = nI q ∧ ∀ j, j < q → c j = false := by
  rcases fstG_cases c N 0 with ⟨e, h⟩ | ⟨q, h1, h2, h3, h4, h5⟩
  · exact Or.inl ⟨e, fun j hj => h j (by omega) (by omega)⟩
  · exact Or.inr ⟨q, by omega, h3, h4, fun j hj => h5 j (by omega) hj⟩
theorem lstI_cases (c : Nat → Bool) : ∀ N, (lstI c N = -1 ∧ ∀ j, j < N → c j = false) ∨ ∃ q, q < N ∧ c q = true ∧ lstI c N = nI q ∧ ∀ j, q < j → j < N → c j = false
  | 0 => Or.inl ⟨rfl, fun j h => by omega⟩
  | n + 1 => by
    by_cases hc : c n = true
    · exact Or.inr ⟨n, by omega, hc, by simp [lstI, hc], fun j h1 h2 => by omega⟩
    · have hc' : c n = false := by simpa using hc
      rcases lstI_cases c n with ⟨e, h⟩ | ⟨q, h1, h2, h3, h4⟩
      · refine Or.inl ⟨by simp [lstI, hc', e], fun j hj => ?_⟩
        by_cases hj2 : j = n
        · rw [hj2]; exact hc'
        · exact h j (by omega)
      · refine Or.inr ⟨q, by omega, h2, by simp [lstI, hc', h3], fun j g1 g2 => ?_⟩
        by_cases hj : j = n
        · rw [hj]; exact hc'
        · exact h4 j g1 (by omega)
theorem cntI_le (c : Nat → Bool) : ∀ n, cntI c n ≤ n
  | 0 => Nat.le_refl _
  | n + 1 => by
    have := cntI_le c n
    simp only [cntI]
    split <;> omega
theorem cntI_congr {c d : Nat → Bool} : ∀ n, (∀ j, j < n → c j = d j) → cntI c n = cntI d n
  | 0, _ => rfl
  | n + 1, h => by
    simp only [cntI]
    rw [cntI_congr n (fun j hj => h j (by omega)), h n (by omega)]
theorem cntI_0 {c : Nat → Bool} : ∀ n, (∀ j, j < n → c j = false) → cntI c n = 0
  | 0, _ => rfl
  | n + 1, h => by
    simp only [cntI]
    rw [cntI_0 n (fun j hj => h j (by omega)), h n (by omega)]
    rfl
/-- one place fewer -/
theorem cntI_drop {c d : Nat → Bool} {q : Nat} (hc : c q = true) (hd : d q = false) (hne : ∀ j, j ≠ q → d j = c j) : ∀ n, q < n → cntI d n + 1 = cntI c n
  | 0, h => by omega
  | n + 1, h => by
    simp only [cntI]
    by_cases hq : q = n
    · subst hq
      rw [hc, hd, cntI_congr q (fun j hj => hne j (by omega))]
      simp
    · have := cntI_drop hc hd hne n (by omega)
      rw [hne n (Ne.symm hq)]
      omega
theorem upd_id (f : Nat → Int32) (k : Nat) : upd f k (f k) = f := by
  funext j
  by_cases h : j = k
  · rw [h, pk_us]
  · rw [pk_un h]
theorem upd_upd (f : Nat → Int32) (k : Nat) (x y : Int32) : upd (upd f k x) k y = upd f k y := by
  funext j
  by_cases h : j = k
  · rw [h, pk_us, pk_us]
  · rw [pk_un h, pk_un h, pk_un h]
theorem upd_comm (f : Nat → Int32) {k i : Nat} (h : k ≠ i) (x y : Int32) : upd (upd f k x) i y = upd (upd f i y) k x := by
  funext j
  by_cases h1 : j = k
  · subst h1
    rw [pk_un h, pk_us, pk_us]
  · by_cases h2 : j = i
    · subst h2
      rw [pk_us, pk_un h1, pk_us]
    · rw [pk_un h2, pk_un h1, pk_un h1, pk_un h2]
/-- a state of an evening: panes; what the one who looks has taken, and first -/
abbrev EV : Type := (Nat → Int32) × Int32 × Int32
def likeB (a lk s : Int32) : Bool := s != -1 && (s == a || hasB lk s)
def fwF (P : Nat → Int32) (s : Int32) : Int32 := fstI (fun p => P p == s) 12
def cnF (P : Nat → Int32) (s : Int32) : Int32 := nI (cntI (fun p => P p == s) 12)
def loF (a lk : Int32) (P : Nat → Int32) : Int32 := if fwF P a = -1 then fstI (fun q => likeB a lk (P q)) 12 else fwF P a
def laF (a lk : Int32) (P : Nat → Int32) : Int32 := lstI (fun q => likeB a lk (P q)) 12
def shI (a lk : Int32) (P : Nat → Int32) : Nat → Int32 × Int32
  | 0 => (0, -1)
  | n + 1 => if likeB a lk (nI n) = true ∧ (shI a lk P n).1 < cnF P (nI n) then (cnF P (nI n), fwF P (nI n)) else shI a lk P n
def shF (a lk : Int32) (P : Nat → Int32) : Int32 := (shI a lk P 8).2
def tkF (p : Int32) (E : EV) : EV := if p = -1 then E else (upd E.1 p.toNatClampNeg (-1), E.2.1 ||| (1 <<< (p &&& 31)), if E.2.1 = 0 then p else E.2.2)
def grF (a : Int32) : Nat → EV → EV
  | 0, E => E
  | n + 1, E => if fwF E.1 a = -1 then E else grF a n (tkF (fwF E.1 a) E)
def goF (k : Nat) (a lk : Int32) (E : EV) : EV := match k with
  | 2 => tkF (laF a lk E.1) E
  | 3 => if fwF E.1 a = -1 then tkF (loF a lk (tkF (loF a lk E.1) E).1) (tkF (loF a lk E.1) E) else grF a 12 E
  | 4 => if laF a lk E.1 = -1 then E else if 1 < cnF E.1 (E.1 (laF a lk E.1).toNatClampNeg) then tkF (laF a lk E.1) E else E
  | 5 => tkF (shF a lk E.1) E
  | 1 => tkF (loF a lk (tkF (loF a lk E.1) E).1) (tkF (loF a lk E.1) E)
  | _ => tkF (loF a lk E.1) E
/-- a place or none -/
def PlN (p : Int32) : Prop := p = -1 ∨ ∃ q, q < 12 ∧ p = nI q
theorem fst_PlN (c : Nat → Bool) : PlN (fstI c 12) := by
  rcases fstI_cases c 12 with ⟨e, -⟩ | ⟨q, h, -, e, -⟩
  · exact Or.inl e
  · exact Or.inr ⟨q, h, e⟩
theorem fw_PlN (P : Nat → Int32) (s : Int32) : PlN (fwF P s) := fst_PlN _
theorem lo_PlN (a lk : Int32) (P : Nat → Int32) : PlN (loF a lk P) := by
  unfold loF
  split
  · exact fst_PlN _
  · exact fw_PlN _ _
theorem la_PlN (a lk : Int32) (P : Nat → Int32) : PlN (laF a lk P) := by
  rcases lstI_cases (fun q => likeB a lk (P q)) 12 with ⟨e, -⟩ | ⟨q, h, -, e, -⟩
  · exact Or.inl e
  · exact Or.inr ⟨q, h, e⟩
theorem sh_PlN (a lk : Int32) (P : Nat → Int32) : ∀ n, PlN (shI a lk P n).2
  | 0 => Or.inl rfl
  | n + 1 => by
    simp only [shI]
    split
    · exact fw_PlN _ _
    · exact sh_PlN a lk P n
/-- a place taken: its sort has one fewer -/
theorem fw_drop {P : Nat → Int32} {a : Int32} (ha : a ≠ -1) (h : ¬ fwF P a = -1) : ∃ q, q < 12 ∧ fwF P a = nI q ∧ cntI (fun p => upd P q (-1) p == a) 12 + 1 = cntI (fun p => P p == a) 12 := by
  rcases fstI_cases (fun p => P p == a) 12 with ⟨e, -⟩ | ⟨q, hq, hc, e, -⟩
  · exact absurd e h
  · refine ⟨q, hq, e, cntI_drop (q := q) hc ?_ ?_ 12 hq⟩
    · rw [pk_us]
      simpa using Ne.symm ha
    · intro j hj
      rw [pk_un hj]
theorem fw_none {P : Nat → Int32} {a : Int32} (h : cntI (fun p => P p == a) 12 = 0) : fwF P a = -1 := by
  rcases fstI_cases (fun p => P p == a) 12 with ⟨e, -⟩ | ⟨q, hq, hc, e, -⟩
  · exact e
  · have := cntI_drop (c := fun p => P p == a) (d := fun j => if j = q then false else P j == a) (q := q) hc (by simp) (fun j hj => by simp [hj]) 12 hq
    omega
def fillF (F old : Nat → Int32) (k : Nat) : Nat → Int32 := fun j => if j < k then F j else old j
theorem fill_0 (F old : Nat → Int32) : fillF F old 0 = old := by
  funext j
  simp [fillF]
theorem fill_up (F old : Nat → Int32) (k : Nat) : upd (fillF F old k) k (F k) = fillF F old (k + 1) := by
  funext j
  by_cases h : j = k
  · rw [h, pk_us]
    simp [fillF]
  · rw [pk_un h]
    simp only [fillF]
    by_cases h2 : j < k
    · rw [if_pos h2, if_pos (by omega)]
    · rw [if_neg h2, if_neg (by omega)]
theorem fill_in {F old : Nat → Int32} {k j : Nat} (h : j < k) : fillF F old k j = F j := by simp [fillF, h]
theorem eqP {α : Sort _} {P : α → Prop} {a b : α} (e : a = b) (h : P a) : P b := e ▸ h
/-- an array's contents beyond its end are of no account -/
theorem r_norm {J : Jb} {ce sl pc : Nat} {lv : List (Option Value)} {st : List Value} {h : AHp} {a n : Nat} {ty : FieldType} {f : Nat → Int32} (f' : Nat → Int32) (hg : aGet h a = some (.inl (ty, n, .inl f))) (he : ∀ j, j < n → f j = f' j) (kk : Rch J ce sl pc lv st (aSet h a (.inl (ty, n, .inl f')))) : Rch J ce sl pc lv st h := by
  intro l G sg R p e s m args below meth c H locs ls hR C hl hH hS
  have hat : H[sg a]? = some (arrV (G.2.1 ty) n (fun j => .int (f j))) := hH.at (c := .inl (ty, n, .inl f)) rfl hg
  have heq : arrV (G.2.1 ty) n (fun j => .int (f j)) = arrV (G.2.1 ty) n (fun j => .int (f' j)) := by
    unfold arrV
    congr 2
    funext j
    exact congrArg Value.int (he j.val j.isLt)
  obtain ⟨hH1, -⟩ := hH.set (c' := .inl (ty, n, .inl f')) rfl rfl hg (by
    show H[sg a]? = some (arrV (G.2.1 ty) n (fun j => .int (f' j)))
    rw [hat, heq]) rfl (fun _ _ => rfl)
  exact kk l G sg R p e s m args below meth c H locs ls hR C hl hH1 hS
/-- one looks: his panes and his rows -/
abbrev RS : Type := (Nat → Int32) × (Nat → Int32) × (Nat → Int32)
def stR (kd : Nat → Nat) (ow lk : Nat → Int32) (l : Nat) (S : RS) : RS :=
  ((goF (kd l) (ow l) (lk l) (S.1, S.2.1 l, S.2.2 l)).1, upd S.2.1 l (goF (kd l) (ow l) (lk l) (S.1, S.2.1 l, S.2.2 l)).2.1, upd S.2.2 l (goF (kd l) (ow l) (lk l) (S.1, S.2.1 l, S.2.2 l)).2.2)
/-- l among those who look, by age, behind his like -/
def insO (ag : Nat → Int32) (l : Nat) : List Nat → List Nat
  | [] => [l]
  | x :: xs => if ag l < ag x then l :: x :: xs else x :: insO ag l xs
def ordL (ag : Nat → Int32) (set : Int32) : Nat → List Nat
  | 0 => []
  | n + 1 => if hasB set (nI n) = true then insO ag n (ordL ag set n) else ordL ag set n
