set_option maxRecDepth 100000
/-! the component: its cells -/
/-- region 1: x (label 1), the window tried (9 ..), more (81), the evening (97 ..), rows of its own, sheets (169 + 8 s), tape, refusals; the rows on shelves (249 + 8 s); the image (313 ..) -/
def xC (nw iv : Value) (tP : Nat → Int32) (tL : Nat → Option Nat) (tA tK tC tS tH : Nat → Int32) (tN tE tZ tf : Int32) (mP : Nat → Int32) (mf : Int32) (eP eT eF : Nat → Int32) (ef eg : Int32) (ew : Value) (rx gx wx : Nat → Int32) (hv : Nat → Value) (tp : Nat → Int32) (td : Int32) (rf : Nat → Int32) (rc ic : Nat → AC) : List AC :=
  [.inr (0, [nw, iv, .ref 9, .ref 81, .ref 97, .ref 137, .ref 145, .ref 153, .ref 161, .ref 233, .int td, .ref 241]),
   .inr (1, [.ref 17, .ref 33, .ref 41, .ref 49, .ref 57, .ref 65, .ref 73, .int tN, .int tE, .int tZ]), .inr (2, [.ref 25, .int tf]), .inl (.int, 12, .inl tP), .inl (.object "SeenInOrderOfAge$Looker", 8, .inr (.inr (.inr (.inr tL)))), .inl (.int, 8, .inl tA), .inl (.int, 8, .inl tK), .inl (.int, 8, .inl tC), .inl (.int, 8, .inl tS), .inl (.int, 64, .inl tH),
   .inr (2, [.ref 89, .int mf]), .inl (.int, 12, .inl mP),
   .inr (3, [.ref 105, .ref 121, .ref 129, ew, .int eg]), .inr (2, [.ref 113, .int ef]), .inl (.int, 12, .inl eP), .inl (.int, 8, .inl eT), .inl (.int, 8, .inl eF),
   .inl (.int, 3, .inl rx), .inl (.int, 8, .inl gx), .inl (.int, 8, .inl wx), .inl (.object "SeenInOrderOfAge$Sheet", 8, .inr (.inr (.inr (.inr (fun j => some (8 * j + 169)))))),
   .inr (4, [hv 0]), .inr (4, [hv 1]), .inr (4, [hv 2]), .inr (4, [hv 3]), .inr (4, [hv 4]), .inr (4, [hv 5]), .inr (4, [hv 6]), .inr (4, [hv 7]),
   .inl (.int, 250, .inl tp), .inl (.int, 7, .inl rf),
   rc 0, rc 1, rc 2, rc 3, rc 4, rc 5, rc 6, rc 7, ic 0, ic 1, ic 2, ic 3, ic 4, ic 5, ic 6, ic 7, ic 8]
/-- region 2: the window that is (label 2 ..), its lookers (74 + 8 i) -/
def wC (th : Nat → Int32) (pf : Int32) (nl : Nat → Option Nat) (ag lk co sh hs : Nat → Int32) (my ev se : Int32) (lc : Nat → AC) : List AC :=
  [.inr (1, [.ref 10, .ref 26, .ref 34, .ref 42, .ref 50, .ref 58, .ref 66, .int my, .int ev, .int se]), .inr (2, [.ref 18, .int pf]), .inl (.int, 12, .inl th), .inl (.object "SeenInOrderOfAge$Looker", 8, .inr (.inr (.inr (.inr nl)))), .inl (.int, 8, .inl ag), .inl (.int, 8, .inl lk), .inl (.int, 8, .inl co), .inl (.int, 8, .inl sh), .inl (.int, 64, .inl hs),
   lc 0, lc 1, lc 2, lc 3, lc 4, lc 5, lc 6, lc 7]
/-- the i-th looker as an object -/
def lkO (kN : Nat → Nat) (ow : Nat → Int32) (i : Nat) : AC := .inr (7 + kN i, [.int (nI i), .int (ow i)])
/-- the first n of a row of lookers are what they should be: they lie with the window, or are new -/
def LkI (lc : Nat → AC) (r3 : List AC) (nl : Nat → Option Nat) (kN : Nat → Nat) (ow : Nat → Int32) (n : Nat) : Prop :=
  ∀ i, i < n → kN i < 6 ∧ (∃ w, w < 8 ∧ ow i = nI w) ∧ ((∃ j, j < 8 ∧ nl i = some (8 * j + 74) ∧ lc j = lkO kN ow i) ∨ ∃ j, nl i = some (8 * j + 3) ∧ r3[j]? = some (lkO kN ow i))
section XX
variable {nw iv : Value} {tP : Nat → Int32} {tL : Nat → Option Nat} {tA tK tC tS tH : Nat → Int32} {tN tE tZ tf : Int32} {mP : Nat → Int32} {mf : Int32} {eP eT eF : Nat → Int32} {ef eg : Int32} {ew : Value} {rx gx wx : Nat → Int32} {hv : Nat → Value} {tp : Nat → Int32} {td : Int32} {rf : Nat → Int32} {rc ic : Nat → AC}
variable {th : Nat → Int32} {pf : Int32} {nl : Nat → Option Nat} {ag lk co sh hs : Nat → Int32} {my ev se : Int32} {lc : Nat → AC}
variable {r0 r3 x1 : List AC} {Q : Option Value → AHp → Prop} {n : Nat} {kN : Nat → Nat} {ow : Nat → Int32}
theorem lc_at {j : Nat} (hj : j < 8) : aGet (r0, x1, (wC th pf nl ag lk co sh hs my ev se lc), r3) (8 * j + 74) = some (lc j) := by
  match j, hj with
  | 0, _ => rfl
  | 1, _ => rfl
  | 2, _ => rfl
  | 3, _ => rfl
  | 4, _ => rfl
  | 5, _ => rfl
  | 6, _ => rfl
  | 7, _ => rfl
theorem LkI.at {nl' : Nat → Option Nat} {i : Nat} (hL : LkI lc r3 nl' kN ow n) (hi : i < n) : kN i < 6 ∧ ∃ w a, w < 8 ∧ ow i = nI w ∧ nl' i = some a ∧ a % 8 ≠ 1 ∧ ∀ (r0 x1 : List AC) (th : Nat → Int32) (pf : Int32) (nl : Nat → Option Nat) (ag lk co sh hs : Nat → Int32) (my ev se : Int32), aGet (r0, x1, (wC th pf nl ag lk co sh hs my ev se lc), r3) a = some (.inr (7 + kN i, [.int (nI i), .int (nI w)])) := by
  obtain ⟨h1, ⟨w, hw, ew⟩, h3⟩ := hL i hi
  refine ⟨h1, w, ?_⟩
  have e0 : lkO kN ow i = .inr (7 + kN i, [.int (nI i), .int (nI w)]) := by rw [← ew]; rfl
  rcases h3 with ⟨j, hj, e1, e2⟩ | ⟨j, e1, e2⟩
  · refine ⟨8 * j + 74, hw, ew, e1, by omega, fun r0 x1 th pf nl ag lk co sh hs my ev se => ?_⟩
    rw [lc_at hj, e2, e0]
  · refine ⟨8 * j + 3, hw, ew, e1, by omega, fun r0 x1 th pf nl ag lk co sh hs my ev se => ?_⟩
    show (match (8 * j + 3) % 8 with | 0 => _ | 1 => _ | 2 => _ | 3 => r3[(8 * j + 3) / 8]? | _ => none) = _
    rw [show (8 * j + 3) % 8 = 3 by omega, show (8 * j + 3) / 8 = j by omega]
    rw [← e0]
    exact e2
theorem sh_at {s : Nat} (hs8 : s < 8) : aGet (r0, (xC (nw) iv tP tL tA tK tC tS tH tN tE tZ tf mP mf eP eT eF ef eg ew rx gx wx hv tp td rf rc ic), x1, r3) (8 * s + 169) = some (.inr (4, [hv s])) := by
  match s, hs8 with
  | 0, _ => rfl
  | 1, _ => rfl
  | 2, _ => rfl
  | 3, _ => rfl
  | 4, _ => rfl
  | 5, _ => rfl
  | 6, _ => rfl
  | 7, _ => rfl
theorem sh_set {s : Nat} {v : Value} (hs8 : s < 8) : aSet (r0, (xC (nw) iv tP tL tA tK tC tS tH tN tE tZ tf mP mf eP eT eF ef eg ew rx gx wx hv tp td rf rc ic), x1, r3) (8 * s + 169) (.inr (4, [v])) = (r0, (xC (nw) iv tP tL tA tK tC tS tH tN tE tZ tf mP mf eP eT eF ef eg ew rx gx wx (va_up hv s v) tp td rf rc ic), x1, r3) := by
  match s, hs8 with
  | 0, _ => rfl
  | 1, _ => rfl
  | 2, _ => rfl
  | 3, _ => rfl
  | 4, _ => rfl
  | 5, _ => rfl
  | 6, _ => rfl
  | 7, _ => rfl
theorem rc_at {s : Nat} (hs8 : s < 8) : aGet (r0, (xC (nw) iv tP tL tA tK tC tS tH tN tE tZ tf mP mf eP eT eF ef eg ew rx gx wx hv tp td rf rc ic), x1, r3) (8 * s + 249) = some (rc s) := by
  match s, hs8 with
  | 0, _ => rfl
  | 1, _ => rfl
  | 2, _ => rfl
  | 3, _ => rfl
  | 4, _ => rfl
  | 5, _ => rfl
  | 6, _ => rfl
  | 7, _ => rfl
theorem rc_set {s : Nat} {v : AC} (hs8 : s < 8) : aSet (r0, (xC (nw) iv tP tL tA tK tC tS tH tN tE tZ tf mP mf eP eT eF ef eg ew rx gx wx hv tp td rf rc ic), x1, r3) (8 * s + 249) v = (r0, (xC (nw) iv tP tL tA tK tC tS tH tN tE tZ tf mP mf eP eT eF ef eg ew rx gx wx hv tp td rf (va_up rc s v) ic), x1, r3) := by
  match s, hs8 with
  | 0, _ => rfl
  | 1, _ => rfl
  | 2, _ => rfl
  | 3, _ => rfl
  | 4, _ => rfl
  | 5, _ => rfl
  | 6, _ => rfl
  | 7, _ => rfl
end XX
