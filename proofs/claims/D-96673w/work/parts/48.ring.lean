set_option maxRecDepth 100000
/-! plain words: rings -/
theorem pigeon : ∀ (n : Nat) (g : Nat → Nat), (∀ k, k ≤ n → g k < n) → ∃ i j, i < j ∧ j ≤ n ∧ g i = g j
  | 0, g, h => absurd (h 0 (Nat.le_refl _)) (by omega)
  | n + 1, g, h => by
    by_cases c : ∃ i, i ≤ n ∧ g i = g (n + 1)
    · obtain ⟨i, h1, h2⟩ := c
      exact ⟨i, n + 1, by omega, Nat.le_refl _, h2⟩
    · have c2 : ∀ i, i ≤ n → g i ≠ g (n + 1) := fun i hi e => c ⟨i, hi, e⟩
      have hl := h (n + 1) (Nat.le_refl _)
      obtain ⟨i, j, h1, h2, h3⟩ := pigeon n (fun k => if g k = n then g (n + 1) else g k) (fun k hk => by
        have h1 := h k (by omega)
        have h2 := c2 k hk
        show (if g k = n then g (n + 1) else g k) < n
        split
        · rename_i e
          rw [e] at h2
          omega
        · omega)
      refine ⟨i, j, h1, by omega, ?_⟩
      have h3 : (if g i = n then g (n + 1) else g i) = (if g j = n then g (n + 1) else g j) := h3
      have ci := c2 i (by omega)
      have cj := c2 j h2
      by_cases e1 : g i = n
      · by_cases e2 : g j = n
        · omega
        · rw [if_pos e1, if_neg e2] at h3
          exact absurd h3.symm cj
      · by_cases e2 : g j = n
        · rw [if_neg e1, if_pos e2] at h3
          exact absurd h3 ci
        · rw [if_neg e1, if_neg e2] at h3
          exact h3
def itN (f : Nat → Nat) : Nat → Nat → Nat
  | 0, x => x
  | k + 1, x => itN f k (f x)
theorem it_add (f : Nat → Nat) : ∀ a b x, itN f (a + b) x = itN f b (itN f a x)
  | 0, b, x => by rw [Nat.zero_add]; rfl
  | a + 1, b, x => by
    rw [show a + 1 + b = (a + b) + 1 by omega]
    exact it_add f a b (f x)
theorem rg_it {f : Nat → Nat} {l : Nat} : ∀ q w t, t ≤ q → itN f t w = l → rgG f l q w = true
  | 0, w, t, h, e => by
    have : t = 0 := by omega
    subst this
    have e : w = l := e
    simp [rgG, e]
  | q + 1, w, t, h, e => by
    simp only [rgG]
    by_cases g : w = l
    · rw [if_pos g]
    · rw [if_neg g]
      match t, h, e with
      | 0, h, e => exact absurd e g
      | t + 1, h, e => exact rg_it q (f w) t (by omega) e
theorem it_in {f : Nat → Nat} {A : Nat → Prop} (hA : ∀ j, A j → A (f j)) : ∀ k x, A x → A (itN f k x)
  | 0, x, h => h
  | k + 1, x, h => it_in hA k (f x) (hA x h)
/-- where all is closed, somebody stands in a ring -/
theorem ring_ex {f : Nat → Nat} {A : Nat → Prop} {n l : Nat} (hA : ∀ j, A j → j < n ∧ A (f j)) (hl : A l) : ∃ x, A x ∧ rgG f x n (f x) = true := by
  have hin := fun k => it_in (fun j hj => (hA j hj).2) k l hl
  obtain ⟨i, j, h1, h2, h3⟩ := pigeon n (fun k => itN f k l) (fun k _ => (hA _ (hin k)).1)
  have h3 : itN f i l = itN f j l := h3
  refine ⟨itN f i l, hin i, rg_it n _ (j - i - 1) (by omega) ?_⟩
  show itN f (j - i - 1 + 1) (itN f i l) = itN f i l
  rw [← it_add, h3]
  congr 1
  omega
/-- bits and their set -/
theorem ab1 (a : Int32) : (a &&& 1) ||| 1 = 1 := by
  apply Int32.toBitVec_inj.mp
  show (a.toBitVec &&& 1#32) ||| 1#32 = 1#32
  ext i hi
  simp only [BitVec.getElem_or, BitVec.getElem_and]
  cases a.toBitVec[i] <;> cases (1#32)[i] <;> rfl
theorem self_tab : (List.range 12).all (fun p => decide (((1 : Int32) <<< (nI p &&& 31)) >>> (nI p &&& 31) &&& 1 = 1)) = true := by decide +kernel
theorem has_self {t : Int32} {p : Nat} (hp : p < 12) : hasB (t ||| (1 <<< (nI p &&& 31))) (nI p) = true := by
  have h := self_tab
  simp only [List.all_eq_true, List.mem_range, decide_eq_true_eq] at h
  have h2 := h p hp
  unfold hasB
  rw [or_sar, and_or1, h2, ab1]
  rfl
theorem bits_hi {c : Nat → Bool} {m : Nat} (hm : m < 12) : ∀ n, n ≤ m → hasB (bitsI c n) (nI m) = false
  | 0, _ => has_0 hm
  | n + 1, h => by
    have ih := bits_hi (c := c) hm n (by omega)
    simp only [bitsI]
    split
    · first | exact (has_or (by omega) hm (by omega)).trans ih | (rw [Int32.or_comm]; exact (has_or (by omega) hm (by omega)).trans ih)
    · first | exact ih | (rw [or0]; exact ih)
theorem bits_has {c : Nat → Bool} {m : Nat} : ∀ n, n ≤ 12 → m < n → hasB (bitsI c n) (nI m) = c m
  | 0, _, h => by omega
  | n + 1, hn, h => by
    simp only [bitsI]
    by_cases e : m = n
    · subst e
      split
      · rename_i g
        rw [g]
        exact has_self (by omega)
      · rename_i g
        have := bits_hi (c := c) (m := m) (by omega) m (Nat.le_refl _)
        first | (rw [this]; simpa using g) | (rw [or0, this]; simpa using g)
    · have ih := bits_has (c := c) (m := m) n (by omega) (by omega)
      split
      · exact (has_or (by omega) (by omega) (by omega)).trans ih
      · first | exact ih | (rw [or0]; exact ih)
/-- who would have whose is one who is still there -/
theorem ws_P {P : Int32 → Prop} {b : Nat → Int32} {lk : Int32} (hb : ∀ k, P (b k)) : ∀ q k v, P v → P (wsG b lk q k v)
  | 0, _, v, h => h
  | q + 1, k, v, h => by
    rw [wsG_s]
    split
    · refine ws_P hb q (k + 1) _ ?_
      split
      · exact hb k
      · exact h
    · exact h
theorem br_P (sh ou : Nat → Int32) (n : Nat) (s : Int32) : brF sh ou n s = -1 ∨ ∃ w, (w < n ∧ ou w = 0) ∧ brF sh ou n s = nI w := by
  rcases fstI_cases (fun l => ou l == 0 && sh l == s) n with ⟨e, -⟩ | ⟨q, hq, hc, e, -⟩
  · exact Or.inl e
  · refine Or.inr ⟨q, ⟨hq, ?_⟩, e⟩
    simp only [Bool.and_eq_true, beq_iff_eq] at hc
    exact hc.1
theorem wi_P {sh ou ow lk : Nat → Int32} {n l : Nat} (hl : l < n ∧ ou l = 0) : ∃ w, (w < n ∧ ou w = 0) ∧ wiF sh ou ow lk n l = nI w := by
  have h := ws_P (P := fun v => v = -1 ∨ ∃ w, (w < n ∧ ou w = 0) ∧ v = nI w) (b := fun k => brF sh ou n (nI k)) (lk := lk l) (fun k => br_P sh ou n (nI k)) 8 0 (brF sh ou n (ow l)) (br_P sh ou n (ow l))
  unfold wiF
  rcases h with h | ⟨w, h1, h2⟩
  · rw [if_pos h]
    exact ⟨l, hl, rfl⟩
  · by_cases g : wsG (fun k => brF sh ou n (nI k)) (lk l) 8 0 (brF sh ou n (ow l)) = -1
    · rw [if_pos g]
      exact ⟨l, hl, rfl⟩
    · rw [if_neg g]
      exact ⟨w, h1, h2⟩
def wiN (sh ou ow lk : Nat → Int32) (n l : Nat) : Nat := (wiF sh ou ow lk n l).toNatClampNeg
theorem wiN_P {sh ou ow lk : Nat → Int32} {n l : Nat} (hn : n ≤ 8) (hl : l < n ∧ ou l = 0) : (wiN sh ou ow lk n l < n ∧ ou (wiN sh ou ow lk n l) = 0) ∧ wiF sh ou ow lk n l = nI (wiN sh ou ow lk n l) := by
  obtain ⟨w, h1, h2⟩ := wi_P (sh := sh) (ow := ow) (lk := lk) hl
  have e : wiN sh ou ow lk n l = w := by
    unfold wiN
    rw [h2]
    exact nI_clamp (by omega)
  rw [e]
  exact ⟨h1, h2⟩
/-- who stands in a ring -/
def rgB (sh ou ow lk : Nat → Int32) (n l : Nat) : Bool := ou l == 0 && rgG (wiN sh ou ow lk n) l n (wiN sh ou ow lk n l)
theorem rg_some {sh ou ow lk : Nat → Int32} {n l : Nat} (hn : n ≤ 8) (hl : l < n ∧ ou l = 0) : ∃ x, x < n ∧ rgB sh ou ow lk n x = true := by
  obtain ⟨x, h1, h2⟩ := ring_ex (f := wiN sh ou ow lk n) (A := fun j => j < n ∧ ou j = 0) (n := n) (fun j hj => ⟨hj.1, (wiN_P hn hj).1⟩) hl
  exact ⟨x, h1.1, by simp [rgB, h1.2, h2]⟩
/-- a round, of the first k: who is in a ring gets and goes -/
def ouR (c : Nat → Bool) (ou : Nat → Int32) (k : Nat) : Nat → Int32 := fun l => if l < k ∧ c l = true then 1 else ou l
def geR (c : Nat → Bool) (F ge : Nat → Int32) (k : Nat) : Nat → Int32 := fun l => if l < k ∧ c l = true then F l else ge l
theorem geR_0 (c : Nat → Bool) (F ge : Nat → Int32) : geR c F ge 0 = ge := by
  funext l
  simp [geR]
theorem geR_t {c : Nat → Bool} {F ge : Nat → Int32} {k : Nat} (h : c k = true) : upd (geR c F ge k) k (F k) = geR c F ge (k + 1) := by
  funext l
  by_cases e : l = k
  · subst e
    rw [pk_us]
    simp [geR, h]
  · rw [pk_un e]
    simp only [geR]
    by_cases g : c l = true
    · by_cases g2 : l < k
      · rw [if_pos ⟨g2, g⟩, if_pos ⟨by omega, g⟩]
      · rw [if_neg (fun z => g2 z.1), if_neg (fun z => by omega)]
    · rw [if_neg (fun z => g z.2), if_neg (fun z => g z.2)]
theorem geR_f {c : Nat → Bool} {F ge : Nat → Int32} {k : Nat} (h : ¬ c k = true) : geR c F ge (k + 1) = geR c F ge k := by
  funext l
  simp only [geR]
  by_cases g : c l = true
  · have : l ≠ k := fun e => h (e ▸ g)
    by_cases g2 : l < k
    · rw [if_pos (show l < k + 1 ∧ c l = true from ⟨by omega, g⟩), if_pos (show l < k ∧ c l = true from ⟨g2, g⟩)]
    · rw [if_neg (show ¬ (l < k + 1 ∧ c l = true) from fun z => by omega), if_neg (show ¬ (l < k ∧ c l = true) from fun z => g2 z.1)]
  · rw [if_neg (fun z => g z.2), if_neg (fun z => g z.2)]
abbrev SW : Type := (Nat → Int32) × (Nat → Int32)
def swR (sh ow lk : Nat → Int32) (n : Nat) (S : SW) : SW := (geR (rgB sh S.1 ow lk n) (fun _ => 1) S.1 n, geR (rgB sh S.1 ow lk n) (fun l => sh (wiN sh S.1 ow lk n l)) S.2 n)
def swI (sh ow lk : Nat → Int32) (n : Nat) : Nat → SW → SW
  | 0, S => S
  | q + 1, S => swI sh ow lk n q (swR sh ow lk n S)
/-- those still there -/
def inC (n : Nat) (ou : Nat → Int32) : Nat := cntI (fun l => ou l == 0) n
theorem cnt_ex {c : Nat → Bool} : ∀ n, 0 < cntI c n → ∃ l, l < n ∧ c l = true
  | 0, h => by simp [cntI] at h
  | n + 1, h => by
    simp only [cntI] at h
    by_cases g : c n = true
    · exact ⟨n, by omega, g⟩
    · rw [if_neg g] at h
      obtain ⟨l, h1, h2⟩ := cnt_ex n (by omega)
      exact ⟨l, by omega, h2⟩
theorem cnt_split {c d e : Nat → Bool} : ∀ n, (∀ l, l < n → c l = (d l || e l) ∧ (d l && e l) = false) → cntI c n = cntI d n + cntI e n
  | 0, _ => rfl
  | n + 1, h => by
    have ih := cnt_split n (fun l hl => h l (by omega))
    obtain ⟨h1, h2⟩ := h n (by omega)
    simp only [cntI]
    rw [ih, h1]
    cases hd : d n <;> cases he : e n <;> simp_all <;> omega
theorem swR_cnt {sh ow lk : Nat → Int32} {n : Nat} (S : SW) : inC n S.1 = cntI (rgB sh S.1 ow lk n) n + inC n (swR sh ow lk n S).1 := by
  refine cnt_split n (fun l hl => ?_)
  show (S.1 l == 0) = (rgB sh S.1 ow lk n l || (geR (rgB sh S.1 ow lk n) (fun _ => 1) S.1 n l == 0)) ∧ (rgB sh S.1 ow lk n l && (geR (rgB sh S.1 ow lk n) (fun _ => 1) S.1 n l == 0)) = false
  simp only [geR]
  by_cases g : rgB sh S.1 ow lk n l = true
  · rw [if_pos ⟨hl, g⟩, g]
    have : (S.1 l == 0) = true := by
      unfold rgB at g
      simp only [Bool.and_eq_true] at g
      exact g.1
    rw [this]
    decide
  · rw [if_neg (fun z => g z.2)]
    have g2 : rgB sh S.1 ow lk n l = false := by simpa using g
    rw [g2]
    simp
theorem swR_id {sh ow lk : Nat → Int32} {n : Nat} {S : SW} (h : inC n S.1 = 0) : swR sh ow lk n S = S := by
  have h0 : ∀ l, l < n → ¬ rgB sh S.1 ow lk n l = true := by
    intro l hl g
    have e := swR_cnt (sh := sh) (ow := ow) (lk := lk) (n := n) S
    have : cntI (rgB sh S.1 ow lk n) n = 0 := by omega
    have h2 := cntI_drop (c := rgB sh S.1 ow lk n) (d := fun j => if j = l then false else rgB sh S.1 ow lk n j) (q := l) g (by simp) (fun j hj => by simp [hj]) n hl
    omega
  unfold swR
  refine Prod.ext ?_ ?_
  · funext l
    show geR (rgB sh S.1 ow lk n) (fun _ => 1) S.1 n l = S.1 l
    simp only [geR]
    exact if_neg (fun z => h0 l z.1 z.2)
  · funext l
    show geR (rgB sh S.1 ow lk n) (fun l => sh (wiN sh S.1 ow lk n l)) S.2 n l = S.2 l
    simp only [geR]
    exact if_neg (fun z => h0 l z.1 z.2)
theorem swI_id {sh ow lk : Nat → Int32} {n : Nat} {S : SW} (h : inC n S.1 = 0) : ∀ q, swI sh ow lk n q S = S
  | 0 => rfl
  | q + 1 => by
    show swI sh ow lk n q (swR sh ow lk n S) = S
    rw [swR_id h]
    exact swI_id h q
theorem swR_less {sh ow lk : Nat → Int32} {n : Nat} {S : SW} (hn : n ≤ 8) (h : 0 < inC n S.1) : inC n (swR sh ow lk n S).1 < inC n S.1 := by
  obtain ⟨l, h1, h2⟩ := cnt_ex n h
  obtain ⟨x, h3, h4⟩ := rg_some (sh := sh) (ou := S.1) (ow := ow) (lk := lk) (n := n) (l := l) hn ⟨h1, by simpa using h2⟩
  have e := swR_cnt (sh := sh) (ow := ow) (lk := lk) (n := n) S
  have h5 := cntI_drop (c := rgB sh S.1 ow lk n) (d := fun j => if j = x then false else rgB sh S.1 ow lk n j) (q := x) h4 (by simp) (fun j hj => by simp [hj]) n h3
  omega
