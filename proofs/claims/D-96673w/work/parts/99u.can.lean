set_option maxRecDepth 100000
/-! the law: what stands between two calls -/
def mL_law : MI := (⟨"SeenInOrderOfAgeLaw", "law", "([I)Z"⟩, cL_law, 4, some .boolean, [])
def QL : OC → AHp → Prop := fun x _ => x = .inl (some (.int 1))
abbrev JL : Jb := (mL_law, 20, 603072, 7262314, QL)
theorem QL_ok (x : OC) (k : AHp) (h : QL x k) : ∃ v : Option Value, x = .inl v ∧ (∀ sg, v.map (rv sg) = v) ∧ ∀ k2, QL x k2 := ⟨_, h, fun _ => rfl, fun _ => h⟩
theorem x_sldE {J : Jb} {ce sl pc L j : Nat} {v : Int32} {xs : Nat → Int32} {lv : List (Option Value)} {st : List Value} {h : AHp} (hd : decode J.1.2.1 pc = .ok (.iaload, 1)) (hv : v = nI j) (hj : j < L) (hL : L < 1000) (kk : RchX (ScP L xs) J ce sl (pc + 1) lv (.int (xs j) :: st) h) : RchX (ScP L xs) J ce sl pc lv (.int v :: .ref 4 :: st) h := by
  subst hv
  exact x_sld hd hj hL kk
def nlF (n : Nat) : Nat → Option Nat := fun i => if i < n then some (8 * i + 74) else none
/-- no label but those that stay -/
def Fx (c : AC) : Prop := ∀ ρ : Nat → Nat, (∀ a, a % 8 < 3 → ρ a = a) → cr ρ c = c
def FxV (v : Value) : Prop := ∀ ρ : Nat → Nat, (∀ a, a % 8 < 3 → ρ a = a) → rv ρ v = v
theorem FxV.ref {a : Nat} (h : a % 8 < 3) : FxV (.ref a) := fun ρ hρ => by
  show Value.ref (ρ a) = _
  rw [hρ a h]
theorem FxV.null : FxV .null := fun _ _ => rfl
/-- no label at all -/
def Fx0 (c : AC) : Prop := ∀ ρ : Nat → Nat, cr ρ c = c
theorem Fx.row (k m : Nat) (f : Nat → Int64) : Fx0 (rwC k m f) := by
  intro ρ
  unfold rwC
  split <;> rfl
theorem Fx.opq : Fx (.inr (99, [])) := fun _ _ => rfl
theorem Fx0.opq : Fx0 (.inr (99, [])) := fun _ => rfl
theorem Fx.lk (kN : Nat → Nat) (ow : Nat → Int32) (i : Nat) : Fx0 (lkO kN ow i) := fun _ => rfl
def FxA (hv : Nat → Value) (iv : Value) (rc ic lc : Nat → AC) : Prop := (∀ s, s < 8 → FxV (hv s)) ∧ FxV iv ∧ (∀ s, s < 8 → Fx0 (rc s)) ∧ (∀ s, s < 9 → Fx (ic s)) ∧ ∀ s, s < 8 → Fx0 (lc s)
def LkC (kd ow : Nat → Int32) (lc : Nat → AC) (kN : Nat → Nat) (n : Nat) : Prop := ∀ i, i < n → kN i < 6 ∧ kd i = nI (kN i) ∧ (∃ w, w < 8 ∧ ow i = nI w) ∧ lc i = lkO kN ow i
def ShC (hd rl : Nat → Int32) (ro : Nat → Int64) (hv : Nat → Value) (rc : Nat → AC) (n : Nat) : Prop := ∀ s, s < 8 → (hd s = -1 ∧ hv s = .null) ∨ (∃ k m f, k < 5 ∧ m ≤ 40 ∧ hd s = nI k ∧ rl s = nI m ∧ hv s = .ref (8 * s + 249) ∧ rc s = rwC k m f ∧ ∀ q, q < m → f q = ro (40 * s + q) ∧ keF k (f q) = f q) ∨ (∃ x, x < n ∧ hd s = nI (10 + x) ∧ hv s = .ref (8 * x + 74))
def SiI (sh : Nat → Int32) (n : Nat) : Prop := ∀ l, l < n → sh l = -1 ∨ ∃ s, s < 8 ∧ sh l = nI s
/-- the image's window -/
def imW (th : Nat → Int32) (pf : Int32) (nl : Nat → Option Nat) (ag lk co sh hs : Nat → Int32) (my ev se : Int32) : List AC := [.inr (1, [.ref 321, .ref 337, .ref 345, .ref 353, .ref 361, .ref 369, .ref 377, .int my, .int ev, .int se]), .inr (2, [.ref 329, .int pf]), .inl (.int, 12, .inl th), .inl (.object "SeenInOrderOfAge$Looker", 8, .inr (.inr (.inr (.inr nl)))), .inl (.int, 8, .inl ag), .inl (.int, 8, .inl lk), .inl (.int, 8, .inl co), .inl (.int, 8, .inl sh), .inl (.int, 64, .inl hs)]
def ImC (im : Int32) (iv : Value) (ol : Nat → Int32) (ic : Nat → AC) (kd ow : Nat → Int32) (n : Nat) : Prop := (im = 0 ∧ iv = .null) ∨ (im = 1 ∧ iv = .ref 313 ∧ ∃ th kd1 ow1 ag lk co sh hs pf ev se n1 o0, n1 ≤ n ∧ ol = kpF th kd1 ow1 ag lk co sh hs (nI n1) ev se o0 ∧ (∀ i, i < n1 → kd1 i = kd i ∧ ow1 i = ow i) ∧ ThI th ∧ HsI hs ∧ SiI sh n1 ∧ ∀ i, i < 9 → (imW th pf (nlF n1) ag lk co sh hs (nI n1) ev se)[i]? = some (ic i))
def CP (k : Nat) (th kd ow sh hs hd rl : Nat → Int32) (ro : Nat → Int64) (ol : Nat → Int32) (im : Int32) (n t : Nat) (kN : Nat → Nat) (lc : Nat → AC) (hv : Nat → Value) (rc ic : Nat → AC) (iv : Value) : Prop :=
  n ≤ 8 ∧ t ≤ k ∧ LkC kd ow lc kN n ∧ ThI th ∧ HsI hs ∧ SiI sh n ∧ ShC hd rl ro hv rc n ∧ ImC im iv ol ic kd ow n ∧ FxA hv iv rc ic lc
def Can (k : Nat) (h : AHp) : Prop := ∃ (th kd ow ag lk co sh hs tp hd rl : Nat → Int32) (ro : Nat → Int64) (rf ol ah tr od tk fo wi ou ge mo : Nat → Int32) (ev se fr to tn va im lo : Int32) (iv : Value) (tP : Nat → Int32) (tL : Nat → Option Nat) (tA tK tC tS tH : Nat → Int32) (tN tE tZ tf : Int32) (mP : Nat → Int32) (mf : Int32) (eP eT eF : Nat → Int32) (ef eg : Int32) (ew : Value) (rx gx wx : Nat → Int32) (hv : Nat → Value) (rc ic : Nat → AC) (pf : Int32) (lc : Nat → AC) (n t : Nat) (kN : Nat → Nat),
  h = ((mC th kd ow ag lk co sh hs tp hd rl ro rf ol ah tr od tk fo wi ou ge mo (nI n) ev se (nI t) fr to tn va im lo), (xC (.ref 2) iv tP tL tA tK tC tS tH tN tE tZ tf mP mf eP eT eF ef eg ew rx gx wx hv tp (nI t) rf rc ic), (wC th pf (nlF n) ag lk co sh hs (nI n) ev se lc), []) ∧ CP k th kd ow sh hs hd rl ro ol im n t kN lc hv rc ic iv
/-- the places in h' stand in h, under the old labels -/
theorem hc_of {ρ : Nat → Nat} {h h' : AHp} (h0 : h'.2.2.2 = []) (hρ : ∀ a, a % 8 < 3 → ρ a = a) (e0 : h.1 = h'.1.map (cr ρ)) (e1 : h.2.1 = h'.2.1.map (cr ρ)) (e2 : h.2.2.1 = h'.2.2.1.map (cr ρ)) : ∀ a c, aGet h' a = some c → a % 8 < 3 ∧ aGet h (ρ a) = some (cr ρ c) := by
  intro a c hg
  have key : ∀ (l l' : List AC), l = l'.map (cr ρ) → l'[a / 8]? = some c → l[a / 8]? = some (cr ρ c) := by
    intro l l' e h
    rw [e, List.getElem?_map, h]
    rfl
  unfold aGet at hg
  have ha : a % 8 < 3 := by
    match e : a % 8, hg with
    | 0, _ => omega
    | 1, _ => omega
    | 2, _ => omega
    | 3, hg => rw [h0] at hg; simp at hg
  refine ⟨ha, ?_⟩
  rw [hρ a ha]
  unfold aGet
  match e : a % 8, hg with
  | 0, hg => exact key _ _ e0 hg
  | 1, hg => exact key _ _ e1 hg
  | 2, hg => exact key _ _ e2 hg
  | 3, hg => omega
def fgR (m : Nat) : Nat → Nat := fun a => if a % 8 = 3 then a + 8 * m else if a % 8 = 5 then a / 8 else a
theorem fgR_id (m a : Nat) (h : a % 8 < 3) : fgR m a = a := by
  unfold fgR
  rw [if_neg (by omega), if_neg (by omega)]
theorem fgR_5 (m b : Nat) : fgR m (8 * b + 5) = b := by
  unfold fgR
  rw [if_neg (by omega), if_pos (by omega)]
  omega
theorem fgt {P : GX → Prop} {ce sl pc i : Nat} {D : List AC} {th kd ow ag lk co sh hs tp hd rl : Nat → Int32} {ro : Nat → Int64} {rf ol ah tr od tk fo wi ou ge mo : Nat → Int32} {ev se fr to tn va im lo : Int32} {iv : Value} {tP : Nat → Int32} {tL : Nat → Option Nat} {tA tK tC tS tH : Nat → Int32} {tN tE tZ tf : Int32} {mP : Nat → Int32} {mf : Int32} {eP eT eF : Nat → Int32} {ef eg : Int32} {ew : Value} {rx gx wx : Nat → Int32} {hv : Nat → Value} {rc ic : Nat → AC} {pf : Int32} {lc : Nat → AC} {n t : Nat} {kN : Nat → Nat} (hF : FxA hv iv rc ic lc) (kk : RchX P JL ce sl pc [some (.ref 4), some (.ref 1), some (.ref 0), some (.int (nI i))] [] ((mC th kd ow ag lk co sh hs tp hd rl ro rf ol ah tr od tk fo wi ou ge mo (nI n) ev se (nI t) fr to tn va im lo), (xC (.ref 2) iv tP (fun i => (tL i).map (fun b => 8 * b + 5)) tA tK tC tS tH tN tE tZ tf mP mf eP eT eF ef eg (rv (fun b => 8 * b + 5) ew) rx gx wx hv tp (nI t) rf rc ic), (wC th pf (nlF n) ag lk co sh hs (nI n) ev se lc), [])) : RchX P JL ce sl pc [some (.ref 4), some (.ref 1), some (.ref 0), some (.int (nI i))] [] ((mC th kd ow ag lk co sh hs tp hd rl ro rf ol ah tr od tk fo wi ou ge mo (nI n) ev se (nI t) fr to tn va im lo), (xC (.ref 2) iv tP tL tA tK tC tS tH tN tE tZ tf mP mf eP eT eF ef eg ew rx gx wx hv tp (nI t) rf rc ic), (wC th pf (nlF n) ag lk co sh hs (nI n) ev se lc), D) := by
  have hρ := fgR_id D.length
  have hcc := hc_of (ρ := fgR D.length) (h := ((mC th kd ow ag lk co sh hs tp hd rl ro rf ol ah tr od tk fo wi ou ge mo (nI n) ev se (nI t) fr to tn va im lo), (xC (.ref 2) iv tP tL tA tK tC tS tH tN tE tZ tf mP mf eP eT eF ef eg ew rx gx wx hv tp (nI t) rf rc ic), (wC th pf (nlF n) ag lk co sh hs (nI n) ev se lc), D)) (h' := ((mC th kd ow ag lk co sh hs tp hd rl ro rf ol ah tr od tk fo wi ou ge mo (nI n) ev se (nI t) fr to tn va im lo), (xC (.ref 2) iv tP (fun i => (tL i).map (fun b => 8 * b + 5)) tA tK tC tS tH tN tE tZ tf mP mf eP eT eF ef eg (rv (fun b => 8 * b + 5) ew) rx gx wx hv tp (nI t) rf rc ic), (wC th pf (nlF n) ag lk co sh hs (nI n) ev se lc), [])) rfl hρ rfl (by
    obtain ⟨f1, f2, f3, f4, f5⟩ := hF
    have eL : (fun i => ((tL i).map (fun b => 8 * b + 5)).map (fgR D.length)) = tL := by
      funext i
      cases tL i with
      | none => rfl
      | some b => show some (fgR D.length (8 * b + 5)) = _; rw [fgR_5]
    have eW : rv (fgR D.length) (rv (fun b => 8 * b + 5) ew) = ew := by
      cases ew with
      | ref b => show Value.ref (fgR D.length (8 * b + 5)) = _; rw [fgR_5]
      | _ => rfl
    have eS : (fun j => (some (8 * j + 169)).map (fgR D.length)) = fun j => some (8 * j + 169) := by
      funext j
      show some (fgR D.length (8 * j + 169)) = _
      rw [hρ _ (by omega)]
    show _ = [cr _ _, cr _ _, cr _ _, cr _ _, cr _ _, cr _ _, cr _ _, cr _ _, cr _ _, cr _ _, cr _ _, cr _ _, cr _ _, cr _ _, cr _ _, cr _ _, cr _ _, cr _ _, cr _ _, cr _ _, cr _ _, cr _ _, cr _ _, cr _ _, cr _ _, cr _ _, cr _ _, cr _ _, cr _ _, cr _ _, cr _ _, cr _ _, cr _ _, cr _ _, cr _ _, cr _ _, cr _ _, cr _ _, cr _ _, cr _ _, cr _ _, cr _ _, cr _ _, cr _ _, cr _ _, cr _ _, cr _ _, cr _ _]
    rw [f3 0 (by omega) _, f3 1 (by omega) _, f3 2 (by omega) _, f3 3 (by omega) _, f3 4 (by omega) _, f3 5 (by omega) _, f3 6 (by omega) _, f3 7 (by omega) _, f4 0 (by omega) _ hρ, f4 1 (by omega) _ hρ, f4 2 (by omega) _ hρ, f4 3 (by omega) _ hρ, f4 4 (by omega) _ hρ, f4 5 (by omega) _ hρ, f4 6 (by omega) _ hρ, f4 7 (by omega) _ hρ, f4 8 (by omega) _ hρ]
    show xC (.ref 2) iv tP tL tA tK tC tS tH tN tE tZ tf mP mf eP eT eF ef eg ew rx gx wx hv tp (nI t) rf rc ic = [.inr (0, [.ref 2, rv (fgR D.length) iv, .ref 9, .ref 81, .ref 97, .ref 137, .ref 145, .ref 153, .ref 161, .ref 233, .int (nI t), .ref 241]),
   .inr (1, [.ref 17, .ref 33, .ref 41, .ref 49, .ref 57, .ref 65, .ref 73, .int tN, .int tE, .int tZ]), .inr (2, [.ref 25, .int tf]), .inl (.int, 12, .inl tP), .inl (.object "SeenInOrderOfAge$Looker", 8, .inr (.inr (.inr (.inr (fun i => ((tL i).map (fun b => 8 * b + 5)).map (fgR D.length)))))), .inl (.int, 8, .inl tA), .inl (.int, 8, .inl tK), .inl (.int, 8, .inl tC), .inl (.int, 8, .inl tS), .inl (.int, 64, .inl tH),
   .inr (2, [.ref 89, .int mf]), .inl (.int, 12, .inl mP),
   .inr (3, [.ref 105, .ref 121, .ref 129, rv (fgR D.length) (rv (fun b => 8 * b + 5) ew), .int eg]), .inr (2, [.ref 113, .int ef]), .inl (.int, 12, .inl eP), .inl (.int, 8, .inl eT), .inl (.int, 8, .inl eF),
   .inl (.int, 3, .inl rx), .inl (.int, 8, .inl gx), .inl (.int, 8, .inl wx), .inl (.object "SeenInOrderOfAge$Sheet", 8, .inr (.inr (.inr (.inr (fun j => (some (8 * j + 169)).map (fgR D.length)))))),
   .inr (4, [rv (fgR D.length) (hv 0)]), .inr (4, [rv (fgR D.length) (hv 1)]), .inr (4, [rv (fgR D.length) (hv 2)]), .inr (4, [rv (fgR D.length) (hv 3)]), .inr (4, [rv (fgR D.length) (hv 4)]), .inr (4, [rv (fgR D.length) (hv 5)]), .inr (4, [rv (fgR D.length) (hv 6)]), .inr (4, [rv (fgR D.length) (hv 7)]),
   .inl (.int, 250, .inl tp), .inl (.int, 7, .inl rf),
   rc 0, rc 1, rc 2, rc 3, rc 4, rc 5, rc 6, rc 7, ic 0, ic 1, ic 2, ic 3, ic 4, ic 5, ic 6, ic 7, ic 8]
    rw [eL, eW, eS, f2 _ hρ, f1 0 (by omega) _ hρ, f1 1 (by omega) _ hρ, f1 2 (by omega) _ hρ, f1 3 (by omega) _ hρ, f1 4 (by omega) _ hρ, f1 5 (by omega) _ hρ, f1 6 (by omega) _ hρ, f1 7 (by omega) _ hρ]
    rfl) (by
    obtain ⟨f1, f2, f3, f4, f5⟩ := hF
    have eN : (fun j => (nlF n j).map (fgR D.length)) = nlF n := by
      funext j
      unfold nlF
      by_cases h : j < n
      · rw [if_pos h]; show some (fgR D.length (8 * j + 74)) = _; rw [hρ _ (by omega)]
      · rw [if_neg h]; rfl
    show _ = [cr _ _, cr _ _, cr _ _, cr _ _, cr _ _, cr _ _, cr _ _, cr _ _, cr _ _, cr _ _, cr _ _, cr _ _, cr _ _, cr _ _, cr _ _, cr _ _, cr _ _]
    rw [f5 0 (by omega) _, f5 1 (by omega) _, f5 2 (by omega) _, f5 3 (by omega) _, f5 4 (by omega) _, f5 5 (by omega) _, f5 6 (by omega) _, f5 7 (by omega) _]
    show wC th pf (nlF n) ag lk co sh hs (nI n) ev se lc = [.inr (1, [.ref 10, .ref 26, .ref 34, .ref 42, .ref 50, .ref 58, .ref 66, .int (nI n), .int ev, .int se]), .inr (2, [.ref 18, .int pf]), .inl (.int, 12, .inl th), .inl (.object "SeenInOrderOfAge$Looker", 8, .inr (.inr (.inr (.inr (fun j => (nlF n j).map (fgR D.length)))))), .inl (.int, 8, .inl ag), .inl (.int, 8, .inl lk), .inl (.int, 8, .inl co), .inl (.int, 8, .inl sh), .inl (.int, 64, .inl hs), lc 0, lc 1, lc 2, lc 3, lc 4, lc 5, lc 6, lc 7]
    rw [eN]
    rfl)
  refine RchX.relab (fgR D.length) [some (.ref 4), some (.ref 1), some (.ref 0), some (.int (nI i))] [] _ QL_ok rfl (fun j => ?_) (fun j => ?_) (fun a c hg _ => (hcc a c hg).2) (fun a b c d h1 h2 e => ?_) (fun j v hj => ?_) rfl kk
  · show fgR D.length (8 * j + 3) = 8 * (D.length + j) + 3
    unfold fgR
    rw [if_pos (by omega)]
    omega
  · unfold fgR
    rw [if_neg (by omega), if_neg (by omega)]
  · rw [hρ a (hcc a c h1).1, hρ b (hcc b d h2).1] at e
    exact e
  · match j with
    | 0 => rw [← Option.some.inj (Option.some.inj hj)]; rfl
    | 1 => rw [← Option.some.inj (Option.some.inj hj)]; rfl
    | 2 => rw [← Option.some.inj (Option.some.inj hj)]; rfl
    | 3 => rw [← Option.some.inj (Option.some.inj hj)]; rfl
    | j + 4 => simp at hj
/-- behind the calls: the next round -/
def GoL (L : Nat) (xs : Nat → Int32) (k i ce sl : Nat) : Prop := ∀ ce' sl' h', Can (k + 1) h' → ce' ≤ ce + 9400 → sl' ≤ sl + 113000 → RchX (ScP L xs) JL ce' sl' 1712 [some (.ref 4), some (.ref 1), some (.ref 0), some (.int (nI i))] [] h'
theorem go_fin {L : Nat} {xs : Nat → Int32} {k i ce sl ce' sl' : Nat} {D : List AC} {th kd ow ag lk co sh hs tp hd rl : Nat → Int32} {ro : Nat → Int64} {rf ol ah tr od tk fo wi ou ge mo : Nat → Int32} {ev se fr to tn va im lo : Int32} {iv : Value} {tP : Nat → Int32} {tL : Nat → Option Nat} {tA tK tC tS tH : Nat → Int32} {tN tE tZ tf : Int32} {mP : Nat → Int32} {mf : Int32} {eP eT eF : Nat → Int32} {ef eg : Int32} {ew : Value} {rx gx wx : Nat → Int32} {hv : Nat → Value} {rc ic : Nat → AC} {pf : Int32} {lc : Nat → AC} {n t : Nat} {kN : Nat → Nat} (hG : GoL L xs k i ce sl) (hcp : CP (k + 1) th kd ow sh hs hd rl ro ol im n t kN lc hv rc ic iv) (hce : ce' ≤ ce + 9400) (hsl : sl' ≤ sl + 113000) : RchX (ScP L xs) JL ce' sl' 1712 [some (.ref 4), some (.ref 1), some (.ref 0), some (.int (nI i))] [] ((mC th kd ow ag lk co sh hs tp hd rl ro rf ol ah tr od tk fo wi ou ge mo (nI n) ev se (nI t) fr to tn va im lo), (xC (.ref 2) iv tP tL tA tK tC tS tH tN tE tZ tf mP mf eP eT eF ef eg ew rx gx wx hv tp (nI t) rf rc ic), (wC th pf (nlF n) ag lk co sh hs (nI n) ev se lc), D) :=
  fgt (kN := kN) hcp.2.2.2.2.2.2.2.2 (hG _ _ _ ⟨_, _, _, _, _, _, _, _, _, _, _, _, _, _, _, _, _, _, _, _, _, _, _, _, _, _, _, _, _, _, _, _, _, _, _, _, _, _, _, _, _, _, _, _, _, _, _, _, _, _, _, _, _, _, _, _, _, _, _, _, _, _, rfl, hcp⟩ hce hsl)
theorem lkI_of {kd ow : Nat → Int32} {lc : Nat → AC} {kN : Nat → Nat} {n : Nat} (hn : n ≤ 8) (h : LkC kd ow lc kN n) : LkI lc [] (nlF n) kN ow n := fun i hi => ⟨(h i hi).1, (h i hi).2.2.1, Or.inl ⟨i, by omega, by unfold nlF; rw [if_pos hi], (h i hi).2.2.2⟩⟩
theorem lkH_of {kd ow : Nat → Int32} {lc : Nat → AC} {kN : Nat → Nat} {n : Nat} (h : LkC kd ow lc kN n) : (∀ j, j < n → kd j = nI (kN j) ∧ kN j < 6) ∧ ∀ j, j < n → ow j ≠ -1 := ⟨fun i hi => ⟨(h i hi).2.1, (h i hi).1⟩, fun i hi e => by
  obtain ⟨w, hw, ew⟩ := (h i hi).2.2.1
  rw [ew] at e
  have : ∀ w, w < 8 → nI w ≠ -1 := by decide
  exact this w hw e⟩
theorem nl_none (n : Nat) : ∀ j, n ≤ j → nlF n j = none := fun j hj => by unfold nlF; rw [if_neg (by omega)]
theorem inL {l : Int32} {n j : Nat} (hj : j < n) (hn : n ≤ 8) (e : l = nI j) : inB l 0 (nI n - 1) = true := by rw [e]; exact inB_mI hj (by omega)
theorem nJ {a b : Nat} {v : Int32} (ha : a < 2 ^ 31) (hb : b < 2 ^ 31) (e1 : v = nI a) (e2 : v = nI b) : b = a := ((nI_eq ha hb).mp (e1.symm.trans e2)).symm
