set_option maxRecDepth 100000
/-! the component: image, back -/
section XX
variable {iv : Value} {tP : Nat → Int32} {tL : Nat → Option Nat} {tA tK tC tS tH : Nat → Int32} {tN tE tZ tf : Int32} {mP : Nat → Int32} {mf : Int32} {eP eT eF : Nat → Int32} {ef eg : Int32} {ew : Value} {rx gx wx : Nat → Int32} {hv : Nat → Value} {tp : Nat → Int32} {td : Int32} {rf : Nat → Int32} {rc ic : Nat → AC} {th : Nat → Int32} {pf : Int32} {nl : Nat → Option Nat} {ag lk co sh hs : Nat → Int32} {my ev se : Int32} {lc : Nat → AC} {r0 r3 : List AC} {Q : Option Value → AHp → Prop} {n : Nat} {kN : Nat → Nat} {ow : Nat → Int32}
theorem now_at {x1 : List AC} : WinAt (r0, x1, (wC th pf nl ag lk co sh hs my ev se lc), r3) 2 th nl ag lk co sh hs my ev se := ⟨10, 18, 26, 34, 42, 50, 58, 66, pf, rfl, rfl, rfl, rfl, rfl, rfl, rfl, rfl, rfl⟩
theorem lks_of {x1 : List AC} (hL : LkI lc r3 nl kN ow n) (hN : ∀ j, n ≤ j → nl j = none) : LksAt (r0, x1, (wC th pf nl ag lk co sh hs (nI n) ev se lc), r3) nl := by
  intro i hi y hy
  exact lk_el hL hN (i := i) (by rw [Nat.zero_add]; exact hy)
theorem pX0_image (hlk : LksAt (r0, (xC (.ref 2) iv tP tL tA tK tC tS tH tN tE tZ tf mP mf eP eT eF ef eg ew rx gx wx hv tp td rf rc ic), (wC th pf nl ag lk co sh hs my ev se lc), r3) nl) (hQ : Q (some (.int 1)) (r0, (xC (.ref 2) (.ref (8 * (r3.length + 0) + 3)) tP tL tA tK tC tS tH tN tE tZ tf mP mf eP eT eF ef eg ew rx gx wx hv tp td rf rc ic), (wC th pf nl ag lk co sh hs my ev se lc), r3 ++ wD r3.length 0 th nl ag lk co sh hs my ev se)) : AMet mX0_image 5 9 128 [.ref 1] (r0, (xC (.ref 2) iv tP tL tA tK tC tS tH tN tE tZ tf mP mf eP eT eF ef eg ew rx gx wx hv tp td rf rc ic), (wC th pf nl ag lk co sh hs my ev se lc), r3) Q := by
  refine AMet.ofRch rfl rfl (Nat.le_of_ble_eq_true rfl) ?_
  refine r_aload_n dX0_image_0 rfl ?_
  refine r_aload_n dX0_image_1 rfl ?_
  refine r_get bX0 0 (by decide) q246 dX0_image_2 rfl rfl ?_
  refine r_callV (as := []) okX1_copied bX1 rfl rfl q994 dX0_image_5 (Nat.le_of_ble_eq_true rfl) rfl (Nat.le_of_ble_eq_true rfl) (Nat.le_of_ble_eq_true rfl) (Nat.le_of_ble_eq_true rfl) (pX1_copied rfl now_at hlk ?_)
  refine r_put bX0 1 (by decide) rfl q247 dX0_image_8 rfl rfl rfl (Nat.le_of_ble_eq_true rfl) ?_
  refine r_iconst 1 dX0_image_11 (by decide) ?_
  exact r_iret dX0_image_12 rfl (Nat.le_of_ble_eq_true rfl) (Nat.le_of_ble_eq_true rfl) (hQ)
theorem pX0_back_no {h2 : List AC} (hQ : Q (some (.int (-5))) (r0, (xC (.ref 2) (.null) tP tL tA tK tC tS tH tN tE tZ tf mP mf eP eT eF ef eg ew rx gx wx hv tp td (upd rf 5 (rf 5 + 1)) rc ic), h2, r3)) : AMet mX0_back 5 9 128 [.ref 1] (r0, (xC (.ref 2) (.null) tP tL tA tK tC tS tH tN tE tZ tf mP mf eP eT eF ef eg ew rx gx wx hv tp td rf rc ic), h2, r3) Q := by
  refine AMet.ofRch rfl rfl (Nat.le_of_ble_eq_true rfl) ?_
  refine r_aload_n dX0_back_0 rfl ?_
  refine r_get bX0 1 (by decide) q247 dX0_back_1 rfl rfl ?_
  refine r_ifnonnullN dX0_back_4 ?_
  refine r_aload_n dX0_back_7 rfl ?_
  refine r_bipush (-5) dX0_back_8 (by decide) ?_
  refine r_callV (as := [_]) okX0_no bX0 rfl rfl q381 dX0_back_10 (Nat.le_of_ble_eq_true rfl) rfl (Nat.le_of_ble_eq_true rfl) (Nat.le_of_ble_eq_true rfl) (Nat.le_of_ble_eq_true rfl) (pX0_no 5 (by decide) (by decide) ?_)
  exact r_iret dX0_back_13 rfl (Nat.le_of_ble_eq_true rfl) (Nat.le_of_ble_eq_true rfl) (hQ)
theorem pX0_back {h2 : List AC} {w : Nat} {nv : Nat → Value} {nw : Value} (hn : n ≤ 8) (hw : WinAt (r0, (xC (nw) (.ref w) tP tL tA tK tC tS tH tN tE tZ tf mP mf eP eT eF ef eg ew rx gx wx hv tp td rf rc ic), h2, r3) w th nl ag lk co sh hs (nI n) ev se) (hlk : LksAt (r0, (xC (nw) (.ref w) tP tL tA tK tC tS tH tN tE tZ tf mP mf eP eT eF ef eg ew rx gx wx hv tp td rf rc ic), h2, r3) nl) (hB : ∀ j, j < 8 → BeH (fun hv => (r0, (xC (.ref (8 * (r3.length + 0) + 3)) (.ref w) tP tL tA tK tC tS tH tN tE tZ tf mP mf eP eT eF ef eg ew rx gx wx (hv) tp td rf rc ic), h2, r3 ++ wD r3.length 0 th nl ag lk co sh hs (nI n) ev se)) nl n (hv j) (nv j)) (hQ : Q (some (.int 1)) (r0, (xC (.ref (8 * (r3.length + 0) + 3)) (.ref w) tP tL tA tK tC tS tH tN tE tZ tf mP mf eP eT eF ef eg ew rx gx wx (beF hv nv 8) tp td rf rc ic), h2, r3 ++ wD r3.length 0 th nl ag lk co sh hs (nI n) ev se)) : AMet mX0_back 5 9 128 [.ref 1] (r0, (xC (nw) (.ref w) tP tL tA tK tC tS tH tN tE tZ tf mP mf eP eT eF ef eg ew rx gx wx hv tp td rf rc ic), h2, r3) Q := by
  refine AMet.ofRch rfl rfl (Nat.le_of_ble_eq_true rfl) ?_
  have hw2 := hw
  obtain ⟨pp, pt, pl, pa, pk, pc, ps, ph, pf, s0, -⟩ := hw2
  refine r_aload_n dX0_back_0 rfl ?_
  refine r_get bX0 1 (by decide) q247 dX0_back_1 rfl rfl ?_
  refine r_ifnonnull 14 dX0_back_4 (by decide) ?_
  refine r_aload_n dX0_back_14 rfl ?_
  refine r_aload_n dX0_back_15 rfl ?_
  refine r_get bX0 1 (by decide) q247 dX0_back_16 rfl rfl ?_
  refine r_callV (as := []) okX1_copied bX1 rfl s0 q994 dX0_back_19 (Nat.le_of_ble_eq_true rfl) rfl (Nat.le_of_ble_eq_true rfl) (Nat.le_of_ble_eq_true rfl) (Nat.le_of_ble_eq_true rfl) (pX1_copied rfl hw hlk ?_)
  refine r_callV (as := [_]) okX0_becomes bX0 rfl rfl q1183 dX0_back_22 (Nat.le_of_ble_eq_true rfl) rfl (Nat.le_of_ble_eq_true rfl) (Nat.le_of_ble_eq_true rfl) (Nat.le_of_ble_eq_true rfl) (pX0_becomes (la := 8 * (r3.length + 3) + 3) hn (fun hv => dynG rfl (i := 0) rfl) (fun hv => dynG rfl (i := 3) rfl) hB ?_)
  refine r_iconst 1 dX0_back_25 (by decide) ?_
  exact r_iret dX0_back_26 rfl (Nat.le_of_ble_eq_true rfl) (Nat.le_of_ble_eq_true rfl) (hQ)
end XX
