set_option maxRecDepth 100000
/-! the component: window -/
/-- what a shelf may hold -/
def ShW (nl : Nat → Option Nat) (n : Nat) (rc : Nat → AC) (v : Value) : Prop := v = .null ∨ (∃ s k m g, s < 8 ∧ v = .ref (8 * s + 249) ∧ rc s = rwC k m g) ∨ ∃ x y, x < n ∧ nl x = some y ∧ v = .ref y
section XX
variable {iv : Value} {tP : Nat → Int32} {tL : Nat → Option Nat} {tA tK tC tS tH : Nat → Int32} {tN tE tZ tf : Int32} {mP : Nat → Int32} {mf : Int32} {eP eT eF : Nat → Int32} {ef eg : Int32} {ew : Value} {rx gx wx : Nat → Int32} {hv : Nat → Value} {tp : Nat → Int32} {td : Int32} {rf : Nat → Int32} {rc ic : Nat → AC} {th : Nat → Int32} {pf : Int32} {nl : Nat → Option Nat} {ag lk co sh hs : Nat → Int32} {my ev se : Int32} {lc : Nat → AC} {r0 r3 : List AC} {Q : Option Value → AHp → Prop} {n : Nat} {kN : Nat → Nat} {ow : Nat → Int32}
theorem rcW_at {x3 : List AC} {nw : Value} {s : Nat} (hs8 : s < 8) : aGet (r0, (xC (nw) iv tP tL tA tK tC tS tH tN tE tZ tf mP mf eP eT eF ef eg ew rx gx wx hv tp td rf rc ic), x3, r3) (8 * s + 249) = some (rc s) := by
  match s, hs8 with
  | 0, _ => rfl
  | 1, _ => rfl
  | 2, _ => rfl
  | 3, _ => rfl
  | 4, _ => rfl
  | 5, _ => rfl
  | 6, _ => rfl
  | 7, _ => rfl
theorem be_same {kd ow : Nat → Int32} {nl' : Nat → Option Nat} {n' : Nat} {v : Value} {nw : Value} {td : Int32} (hn : n ≤ n') (hn8 : n' ≤ 8) (hL : LkE lc [] nl kd ow n) (he : ∀ i, i < n → nl' i = nl i) (h : ShW nl n rc v) : BeH (fun hv => (r0, (xC (nw) iv tP tL tA tK tC tS tH tN tE tZ tf mP mf eP eT eF ef eg ew rx gx wx (hv) tp (td) rf rc ic), (wC th pf nl ag lk co sh hs (nI n) ev se lc), r3)) nl' n' v v := by
  rcases h with h | ⟨s, k, m, g, hs8, h1, h2⟩ | ⟨x, y, hx, h1, h2⟩
  · exact Or.inl ⟨h, h⟩
  · exact Or.inr (Or.inl ⟨_, k, m, g, h1, h1, fun hv => by rw [rcW_at hs8, h2]⟩)
  · obtain ⟨kk, w, hkk, hw, -, -, h5⟩ := hL.1 x hx
    rcases h5 with ⟨j, hj, e1, e2⟩ | ⟨j, e1, e2⟩
    · rw [h1] at e1
      have e1 : y = 8 * j + 74 := Option.some.inj e1
      subst e1
      exact Or.inr (Or.inr ⟨_, kk, x, nI w, h2, hkk, by omega, fun hv => by rw [lc_at hj, e2], Or.inl ⟨by omega, _, (he x hx).trans h1, h2⟩⟩)
    · exact absurd e2 (by simp)
end XX
section WW
variable {iv : Value} {tP : Nat → Int32} {tL : Nat → Option Nat} {tA tK tC tS tH : Nat → Int32} {tN tE tZ tf : Int32} {mP : Nat → Int32} {mf : Int32} {eP eT eF : Nat → Int32} {ef eg : Int32} {ew : Value} {rx gx wx : Nat → Int32} {hv : Nat → Value} {tp : Nat → Int32} {td : Int32} {rf : Nat → Int32} {rc ic : Nat → AC} {th : Nat → Int32} {pf : Int32} {nl : Nat → Option Nat} {ag lk co sh hs : Nat → Int32} {my ev se : Int32} {lc : Nat → AC} {r0 r3 : List AC} {Q : Option Value → AHp → Prop} {n : Nat} {kN : Nat → Nat} {ow : Nat → Int32}
theorem pX0_window {Q : OC → AHp → Prop} {t : Nat} {kd : Nat → Int32} (ht : t ≤ 64) (hn : n ≤ 8) (hlk : LksAt (r0, (xC (.ref 2) iv tP tL tA tK tC tS tH tN tE tZ tf mP mf eP eT eF ef eg ew rx gx wx hv tp (nI t) rf rc ic), (wC th pf nl ag lk co sh hs (nI n) ev se lc), []) nl) (hL : LkE lc [] nl kd ow n) (hS : ∀ j, j < 8 → ShW nl n rc (hv j)) (hX : ∀ p D, rdF tp t (t + 1) (th, kd, ow, ag, lk, co, sh, hs, n) 0 0 = .inl p → Q (.inl (some (.int (-20 - nI p)))) (r0, (xC (.ref 2) iv tP tL tA tK tC tS tH tN tE tZ tf mP mf eP eT eF ef eg ew rx gx wx hv tp (0) (upd rf 2 (rf 2 + 1)) rc ic), (wC th pf nl ag lk co sh hs (nI n) ev se lc), D)) (hQ : ∀ th' kd' ow' ag' lk' co' sh' hs' n' m nl' E' rd', rdF tp t (t + 1) (th, kd, ow, ag, lk, co, sh, hs, n) 0 0 = .inr ((th', kd', ow', ag', lk', co', sh', hs', n'), m) → n ≤ n' → n' ≤ 8 → m ≤ 64 → LkE lc E' nl' kd' ow' n' → (∀ i, i < n → nl' i = nl i) → Q (.inl (some (.int (nI m)))) (r0, (xC (.ref 11) iv tP tL tA tK tC tS tH tN tE tZ tf mP mf eP eT eF ef eg ew rx gx wx hv tp (0) rf rc ic), (wC th pf nl ag lk co sh hs (nI n) ev se lc), rd' :: (wD 1 0 th' nl' ag' lk' co' sh' hs' (nI n') ev se ++ E'))) : AMetX mX0_window 12 2480 75600 [.ref 1] (r0, (xC (.ref 2) iv tP tL tA tK tC tS tH tN tE tZ tf mP mf eP eT eF ef eg ew rx gx wx hv tp (nI t) rf rc ic), (wC th pf nl ag lk co sh hs (nI n) ev se lc), []) Q := by
  refine AMetX.ofRch rfl (Nat.le_of_ble_eq_true rfl) ?_
  have hlk2 : LksAt (r0, (xC (.ref 2) iv tP tL tA tK tC tS tH tN tE tZ tf mP mf eP eT eF ef eg ew rx gx wx hv tp (nI t) rf rc ic), (wC th pf nl ag lk co sh hs (nI n) ev se lc), [.inr (13, [.null, .int 0, .null, .int 0, .int 0, .null, .int 0])]) nl := fun i hi y hy => by
    obtain ⟨c, fs, hc, h⟩ := hlk i hi y hy
    exact ⟨c, fs, hc, dyn_other (r3 := []) h⟩
  refine r_new bX13 [.null, .int 0, .null, .int 0, .int 0, .null, .int 0] (by decide) (fun _ => rfl) q992 q993 q117 dX0_window_0 (Nat.le_of_ble_eq_true rfl) (Nat.le_of_ble_eq_true rfl) ?_
  show Rch _ _ _ _ _ (.ref 3 :: _) (r0, (xC (.ref 2) iv tP tL tA tK tC tS tH tN tE tZ tf mP mf eP eT eF ef eg ew rx gx wx hv tp (nI t) rf rc ic), (wC th pf nl ag lk co sh hs (nI n) ev se lc), [.inr (13, [.null, .int 0, .null, .int 0, .int 0, .null, .int 0])])
  refine r_dup dX0_window_3 rfl ?_
  refine r_aload_n dX0_window_4 rfl ?_
  refine r_get bX0 9 (by decide) q255 dX0_window_5 rfl rfl ?_
  refine r_aload_n dX0_window_8 rfl ?_
  refine r_get bX0 10 (by decide) q256 dX0_window_9 rfl rfl ?_
  refine r_aload_n dX0_window_12 rfl ?_
  refine r_get bX0 0 (by decide) q246 dX0_window_13 rfl rfl ?_
  refine r_callV (as := []) okX1_copied bX1 rfl rfl q994 dX0_window_16 (Nat.le_of_ble_eq_true rfl) rfl (Nat.le_of_ble_eq_true rfl) (Nat.le_of_ble_eq_true rfl) (Nat.le_of_ble_eq_true rfl) (pX1_copied (D := [.inr (13, [.null, .int 0, .null, .int 0, .int 0, .null, .int 0])]) (k := 1) rfl now_at hlk2 ?_)
  show Rch _ _ _ _ _ (.ref 11 :: _) (r0, (xC (.ref 2) iv tP tL tA tK tC tS tH tN tE tZ tf mP mf eP eT eF ef eg ew rx gx wx hv tp (nI t) rf rc ic), (wC th pf nl ag lk co sh hs (nI n) ev se lc), .inr (13, [.null, .int 0, .null, .int 0, .int 0, .null, .int 0]) :: (wD 1 0 th nl ag lk co sh hs (nI n) ev se ++ []))
  refine r_callI (as := [_, _, _]) okX13_init q1006 dX0_window_19 (Nat.le_of_ble_eq_true rfl) rfl (Nat.le_of_ble_eq_true rfl) (Nat.le_of_ble_eq_true rfl) (Nat.le_of_ble_eq_true rfl) (pX13_init ?_)
  show Rch _ _ _ _ _ _ (r0, (xC (.ref 2) iv tP tL tA tK tC tS tH tN tE tZ tf mP mf eP eT eF ef eg ew rx gx wx hv tp (nI t) rf rc ic), (wC th pf nl ag lk co sh hs (nI n) ev se lc), rdC t 0 0 .null 0 :: (wD 1 0 th nl ag lk co sh hs (nI n) ev se ++ []))
  refine r_astore_n dX0_window_22 (Nat.le_of_ble_eq_true rfl) ?_
  refine r_aload_n dX0_window_23 rfl ?_
  refine r_xV (as := []) oxX13_read bX13 rfl rfl q1033 dX0_window_24 (Nat.le_of_ble_eq_true rfl) rfl (Nat.le_of_ble_eq_true rfl) (Nat.le_of_ble_eq_true rfl) (Nat.le_of_ble_eq_true rfl) (pX13_read (lc := lc) (kd := kd) (ow := ow) rfl ht hn hL ⟨fun p hp D g0 g1 g2 g3 g4 g5 => ?_, fun th2 kd2 ow2 ag2 lk2 co2 sh2 hs2 n2 m nl2 E2 a2 fr2 w2 nu2 hr hn1 hn2 hm hL2 hnl2 => ?_⟩)
  · refine rt_catch (hp := 45) (fun G hG => srY (by decide) (by decide) q991 q1082) ?_
    refine r_astore_n dX0_window_45 (Nat.le_of_ble_eq_true rfl) ?_
    refine r_aload_n dX0_window_46 rfl ?_
    refine r_bipush (-2) dX0_window_47 (by decide) ?_
    refine r_callV (as := [_]) okX0_no bX0 rfl rfl q381 dX0_window_49 (Nat.le_of_ble_eq_true rfl) rfl (Nat.le_of_ble_eq_true rfl) (Nat.le_of_ble_eq_true rfl) (Nat.le_of_ble_eq_true rfl) (pX0_no 2 (by decide) (by decide) ?_)
    refine r_pop dX0_window_52 rfl ?_
    refine r_bipush (-20) dX0_window_53 (by decide) ?_
    refine r_aload_n dX0_window_55 rfl ?_
    refine r_get bX14 6 (by decide) q1094 dX0_window_56 (dynG (k := D.length) rfl (i := 0) rfl) rfl ?_
    refine r_isub dX0_window_59 ?_
    refine r_istore_n dX0_window_60 (Nat.le_of_ble_eq_true rfl) ?_
    refine r_aload_n dX0_window_61 rfl ?_
    refine r_iconst 0 dX0_window_62 (by decide) ?_
    refine r_put bX0 10 (by decide) rfl q256 dX0_window_63 rfl rfl rfl (Nat.le_of_ble_eq_true rfl) ?_
    refine r_iload_n dX0_window_66 rfl ?_
    exact r_iret dX0_window_67 rfl (Nat.le_of_ble_eq_true rfl) (Nat.le_of_ble_eq_true rfl) (hX p _ hp)
  · have hbe : beF hv hv 8 = hv := by
      funext j
      unfold beF
      split <;> rfl
    have hq := hQ th2 kd2 ow2 ag2 lk2 co2 sh2 hs2 n2 m nl2 E2 (rdC t a2 fr2 w2 nu2) hr hn1 hn2 hm hL2 hnl2
    refine r_istore_n dX0_window_27 (Nat.le_of_ble_eq_true rfl) ?_
    refine r_aload_n dX0_window_28 rfl ?_
    refine r_aload_n dX0_window_29 rfl ?_
    refine r_get bX13 2 (by decide) q1013 dX0_window_30 rfl rfl ?_
    refine r_callV (as := [_]) okX0_becomes bX0 rfl rfl q1183 dX0_window_33 (Nat.le_of_ble_eq_true rfl) rfl (Nat.le_of_ble_eq_true rfl) (Nat.le_of_ble_eq_true rfl) (Nat.le_of_ble_eq_true rfl) (pX0_becomes (w := 11) (la := 8 * (1 + 3) + 3) (nv := hv) hn2 (fun _ => rfl) (fun _ => rfl) (fun j hj => be_same hn1 hn2 hL hnl2 (hS j hj)) ?_)
    rw [hbe]
    refine r_iload_n dX0_window_36 rfl ?_
    refine r_istore_n dX0_window_37 (Nat.le_of_ble_eq_true rfl) ?_
    refine r_aload_n dX0_window_38 rfl ?_
    refine r_iconst 0 dX0_window_39 (by decide) ?_
    refine r_put bX0 10 (by decide) rfl q256 dX0_window_40 rfl rfl rfl (Nat.le_of_ble_eq_true rfl) ?_
    refine r_iload_n dX0_window_43 rfl ?_
    exact r_iret dX0_window_44 rfl (Nat.le_of_ble_eq_true rfl) (Nat.le_of_ble_eq_true rfl) (hq)
end WW
