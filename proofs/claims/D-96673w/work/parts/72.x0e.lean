set_option maxRecDepth 100000
/-! the component: evenings that come, what is told -/
theorem gr_TfI {a : Int32} : ∀ n E, TfI E → TfI (grF a n E)
  | 0, E, h => h
  | n + 1, E, h => by
    simp only [grF]
    split
    · exact h
    · exact gr_TfI n _ (tk_TfI (fw_PlN _ _) h)
theorem go_TfI {a lk : Int32} {k : Nat} {E : EV} (h : TfI E) : TfI (goF k a lk E) := by
  unfold goF
  split
  · exact tk_TfI (la_PlN _ _ _) h
  · split
    · exact tk_TfI (lo_PlN _ _ _) (tk_TfI (lo_PlN _ _ _) h)
    · exact gr_TfI 12 _ h
  · split
    · exact h
    · split
      · exact tk_TfI (la_PlN _ _ _) h
      · exact h
  · exact tk_TfI (sh_PlN _ _ _ 8) h
  · exact tk_TfI (lo_PlN _ _ _) (tk_TfI (lo_PlN _ _ _) h)
  · exact tk_TfI (lo_PlN _ _ _) h
theorem run_TfI {kN : Nat → Nat} {ow lk : Nat → Int32} {j : Nat} : ∀ (L : List Nat) (S : RS), TfI (S.1, S.2.1 j, S.2.2 j) → TfI ((runS kN ow lk L S).1, (runS kN ow lk L S).2.1 j, (runS kN ow lk L S).2.2 j)
  | [], S, h => h
  | l :: L, S, h => by
    refine run_TfI L (stR kN ow lk l S) ?_
    by_cases e : j = l
    · subst e
      show TfI (_, upd S.2.1 j _ j, upd S.2.2 j _ j)
      rw [pk_us, pk_us]
      exact go_TfI h
    · show TfI (_, upd S.2.1 l _ j, upd S.2.2 l _ j)
      rw [pk_un e, pk_un e]
      exact h
theorem ev_TfI {kN : Nat → Nat} {ow lk ag th : Nat → Int32} {n : Nat} {s : Int32} (j : Nat) : (evR kN ow lk ag n th s).2.1 j = 0 ↔ (evR kN ow lk ag n th s).2.2 j = -1 :=
  run_TfI (ordL ag s n) (th, fun _ => 0, fun _ => -1) ⟨fun _ => rfl, fun _ => rfl⟩
/-- what each has is from 0 to 99 -/
def HsI (hs : Nat → Int32) : Prop := ∀ i, i < 64 → ∃ z, z ≤ 99 ∧ hs i = nI z
theorem mm_up {z : Nat} (h : z ≤ 99) : mxF 0 (mnF 99 (nI z + 1)) = mnF 99 (nI z + 1) ∧ ∃ y, y ≤ 99 ∧ mnF 99 (nI z + 1) = nI y := by
  have t : (List.range 100).all (fun z => decide (mxF 0 (mnF 99 (nI z + 1)) = mnF 99 (nI z + 1)) && decide (mnF 99 (nI z + 1) = nI (if z + 1 ≤ 99 then z + 1 else 99))) = true := by decide +kernel
  have t2 := List.all_eq_true.mp t z (List.mem_range.mpr (by omega))
  simp only [Bool.and_eq_true, decide_eq_true_eq] at t2
  refine ⟨t2.1, _, ?_, t2.2⟩
  split <;> omega
theorem mm_dn {z : Nat} (h : z ≤ 99) : mxF 0 (mnF 99 (nI z + -1)) = mxF 0 (nI z - 1) ∧ ∃ y, y ≤ 99 ∧ mxF 0 (nI z - 1) = nI y := by
  have t : (List.range 100).all (fun z => decide (mxF 0 (mnF 99 (nI z + -1)) = mxF 0 (nI z - 1)) && decide (mxF 0 (nI z - 1) = nI (z - 1))) = true := by decide +kernel
  have t2 := List.all_eq_true.mp t z (List.mem_range.mpr (by omega))
  simp only [Bool.and_eq_true, decide_eq_true_eq] at t2
  exact ⟨t2.1, z - 1, by omega, t2.2⟩
theorem hs_upd {hs : Nat → Int32} {i : Nat} {v : Int32} (h : HsI hs) (hv : ∃ y, y ≤ 99 ∧ v = nI y) : HsI (upd hs i v) := by
  intro j hj
  by_cases e : j = i
  · subst e
    rw [pk_us]
    exact hv
  · rw [pk_un e]
    exact h j hj
theorem hp_HsI {th : Nat → Int32} {t : Int32} {l : Nat} {S : Int32 × (Nat → Int32)} (hth : ThI th) (ht : ∀ q, q < 12 → hasB t (nI q) = true → th q ≠ -1) (hl : l < 8) (h : HsI S.2) : ∀ p, p ≤ 12 → HsI (hpF th t l S p).2
  | 0, _ => h
  | p + 1, hp => by
    have ih := hp_HsI hth ht hl h p (by omega)
    simp only [hpF]
    split
    · rename_i g
      obtain ⟨z, hz, ez⟩ := (hth p (by omega)).resolve_left (ht p (by omega) g)
      have e : (th p).toNatClampNeg = z := by rw [ez, nI_clamp (by omega)]
      obtain ⟨y, hy, ey⟩ := ih (8 * l + z) (by omega)
      rw [e]
      refine hs_upd ih ?_
      rw [ey]
      exact (mm_up hy).2
    · exact ih
theorem ha_HsI {th tk hs : Nat → Int32} (hth : ThI th) (ht : ∀ l q, q < 12 → hasB (tk l) (nI q) = true → th q ≠ -1) (h : HsI hs) : ∀ l, l ≤ 8 → HsI (haF th tk hs l).2
  | 0, _ => h
  | l + 1, hl => hp_HsI hth (ht l) (by omega) (ha_HsI hth ht h l (by omega)) 12 (Nat.le_refl _)
section XX
variable {iv : Value} {tP : Nat → Int32} {tL : Nat → Option Nat} {tA tK tC tS tH : Nat → Int32} {tN tE tZ tf : Int32} {mP : Nat → Int32} {mf : Int32} {eP eT eF : Nat → Int32} {ef eg : Int32} {ew : Value} {rx gx wx : Nat → Int32} {hv : Nat → Value} {tp : Nat → Int32} {td : Int32} {rf : Nat → Int32} {rc ic : Nat → AC} {th : Nat → Int32} {pf : Int32} {nl : Nat → Option Nat} {ag lk co sh hs : Nat → Int32} {my ev se : Int32} {lc : Nat → AC} {r0 r3 : List AC} {Q : Option Value → AHp → Prop} {n : Nat} {kN : Nat → Nat} {ow : Nat → Int32}
theorem pX1_holds {h : AHp} {o d x s : Nat} {m : Int32} {wp wl wa wk wc ws wn we wz : Value} {H : Nat → Int32} (hx : x < 8) (hs8 : s < 8) (ho : aGet h o = some (.inr (1, [wp, wl, wa, wk, wc, ws, .ref d, wn, we, wz]))) (hd : aGet h d = some (.inl (.int, 64, .inl H))) (hQ : Q none (aSet h d (.inl (.int, 64, .inl (upd H (8 * x + s) (mxF 0 (mnF 99 (H (8 * x + s) + m)))))))) : AMet mX1_holds 1 0 0 [.ref o, .int (nI x), .int (nI s), .int m] h Q := by
  refine AMet.ofRch rfl rfl (Nat.le_of_ble_eq_true rfl) ?_
  refine r_bipush 8 dX1_holds_0 (by decide) ?_
  refine r_iload_n dX1_holds_2 rfl ?_
  refine r_imul dX1_holds_3 ?_
  rw [show (8 : Int32) * nI x = nI (8 * x) from pk_mul 8 x]
  refine r_iload_n dX1_holds_4 rfl ?_
  refine r_iadd dX1_holds_5 ?_
  rw [nI_add]
  refine r_istore dX1_holds_6 (Nat.le_of_ble_eq_true rfl) ?_
  refine r_aload_n dX1_holds_8 rfl ?_
  refine r_get bX1 6 (by decide) q175 dX1_holds_9 ho rfl ?_
  refine r_iload dX1_holds_12 rfl ?_
  refine r_iconst 0 dX1_holds_14 (by decide) ?_
  refine r_bipush 99 dX1_holds_15 (by decide) ?_
  refine r_aload_n dX1_holds_17 rfl ?_
  refine r_get bX1 6 (by decide) q175 dX1_holds_18 ho rfl ?_
  refine r_iload dX1_holds_21 rfl ?_
  refine r_ialdN dX1_holds_23 hd (by omega) (Nat.le_of_ble_eq_true rfl) ?_
  refine r_iload_n dX1_holds_24 rfl ?_
  refine r_iadd dX1_holds_25 ?_
  refine r_mmin q1470 dX1_holds_26 (Nat.le_of_ble_eq_true rfl) (Nat.le_of_ble_eq_true rfl) (Nat.le_of_ble_eq_true rfl) ?_
  refine r_mmax q1471 dX1_holds_29 (Nat.le_of_ble_eq_true rfl) (Nat.le_of_ble_eq_true rfl) (Nat.le_of_ble_eq_true rfl) ?_
  refine r_iastN dX1_holds_32 hd (by omega) (Nat.le_of_ble_eq_true rfl) ?_
  exact r_vret dX1_holds_33 rfl (Nat.le_of_ble_eq_true rfl) (Nat.le_of_ble_eq_true rfl) (hQ)
theorem pX0_happens {s : Int32} (hn : n ≤ 8) (hL : LkI lc r3 nl kN ow n) (hP : ThI th) (hH : HsI hs) (hQ : ∀ (eP eT eF : Nat → Int32) (ef eg : Int32) (ew : Value), Q (some (.int (haF th (evR kN ow lk ag n th s).2.1 hs n).1)) (r0, (xC (.ref 2) iv tP tL tA tK tC tS tH tN tE tZ tf mP mf eP eT eF ef eg ew rx gx wx hv tp td rf rc ic), (wC ((evR kN ow lk ag n th s).1) pf nl ag lk co (siF th (evR kN ow lk ag n th s).2.1 (evR kN ow lk ag n th s).2.2 sh n) ((haF th (evR kN ow lk ag n th s).2.1 hs n).2) (nI n) (ev + 1) se lc), r3)) : AMet mX0_happens 10 0 0 [.ref 1, .int s] (r0, (xC (.ref 2) iv tP tL tA tK tC tS tH tN tE tZ tf mP mf eP eT eF ef eg ew rx gx wx hv tp td rf rc ic), (wC th pf nl ag lk co sh hs (nI n) ev se lc), r3) Q := by
  refine AMet.ofRch rfl rfl (Nat.le_of_ble_eq_true rfl) ?_
  have ho : ∀ j, j < n → ow j ≠ -1 := by
    intro j hj
    obtain ⟨-, ⟨w, hw, e⟩, -⟩ := hL j hj
    rw [e]; exact nI_m1 (by omega)
  have hI : RsI th (evR kN ow lk ag n th s) := ev_RsI ho
  have hT := ev_TfI (kN := kN) (ow := ow) (lk := lk) (ag := ag) (th := th) (n := n) (s := s)
  have ht : ∀ l q, q < 12 → hasB ((evR kN ow lk ag n th s).2.1 l) (nI q) = true → th q ≠ -1 := fun l q hq g => (hI l).2.1 q hq g
  have hHa := ha_HsI (tk := (evR kN ow lk ag n th s).2.1) hP ht hH
  have hq := hQ
  refine r_aload_n dX0_happens_0 rfl ?_
  refine r_get bX0 4 (by decide) q250 dX0_happens_1 rfl rfl ?_
  refine r_aload_n dX0_happens_4 rfl ?_
  refine r_get bX0 0 (by decide) q246 dX0_happens_5 rfl rfl ?_
  refine r_iload_n dX0_happens_8 rfl ?_
  refine r_callV (as := [_, _]) okX3_of bX3 rfl rfl q547 dX0_happens_9 (Nat.le_of_ble_eq_true rfl) rfl (Nat.le_of_ble_eq_true rfl) (Nat.le_of_ble_eq_true rfl) (Nat.le_of_ble_eq_true rfl) (pX3_of_n hn hL hP (fun ef2 => ?_))
  refine r_pop dX0_happens_12 rfl ?_
  refine r_iconst 0 dX0_happens_13 (by decide) ?_
  refine r_istore_n dX0_happens_14 (Nat.le_of_ble_eq_true rfl) ?_
  refine r_iconst 0 dX0_happens_15 (by decide) ?_
  refine r_istore_n dX0_happens_16 (Nat.le_of_ble_eq_true rfl) ?_
  generalize hE : evR kN ow lk ag n th s = E at hq hI hT ht hHa ⊢
  generalize bitsI (fun l => hasB s (nI l) && gladB th (E.2.1 l) (ow l)) n = eg
  refine loopUp (N := n) (P := fun l => ∀ x : Option Value, Rch (mX0_happens, 10, 0, 0, oQ Q) 0 0 17 [some (.ref 1), some (.int s), some (.int (haF th E.2.1 hs l).1), some (.int (nI l)), x] [] (r0, (xC (.ref 2) iv tP tL tA tK tC tS tH tN tE tZ tf mP mf (E.1) (E.2.1) (E.2.2) (ef2) (eg) (.ref 2) rx gx wx hv tp td rf rc ic), (wC th pf nl ag lk co (siF th E.2.1 E.2.2 sh l) ((haF th E.2.1 hs l).2) (nI n) ev se lc), r3)) ?_ ?_ none
  · intro x
    refine r_iload_n dX0_happens_17 rfl ?_
    refine r_aload_n dX0_happens_18 rfl ?_
    refine r_get bX0 0 (by decide) q246 dX0_happens_19 rfl rfl ?_
    refine r_get bX1 7 (by decide) q179 dX0_happens_22 rfl rfl ?_
    refine r_icmp_ge 143 dX0_happens_25 (by decide) (fun _ => ?_) (fun c_ => absurd (Int32.le_refl _) c_)
    refine r_aload_n dX0_happens_143 rfl ?_
    refine r_get bX0 0 (by decide) q246 dX0_happens_144 rfl rfl ?_
    refine r_get bX1 0 (by decide) q160 dX0_happens_147 rfl rfl ?_
    refine r_aload_n dX0_happens_150 rfl ?_
    refine r_get bX0 4 (by decide) q250 dX0_happens_151 rfl rfl ?_
    refine r_get bX3 0 (by decide) q216 dX0_happens_154 rfl rfl ?_
    refine r_callV (as := [_]) okX2_becomes bX2 rfl rfl q1322 dX0_happens_157 (Nat.le_of_ble_eq_true rfl) rfl (Nat.le_of_ble_eq_true rfl) (Nat.le_of_ble_eq_true rfl) (Nat.le_of_ble_eq_true rfl) (pX2_becomes (a := 10) (s := 18) (b := 105) rfl rfl rfl rfl ?_)
    refine r_pop dX0_happens_160 rfl ?_
    refine r_aload_n dX0_happens_161 rfl ?_
    refine r_get bX0 0 (by decide) q246 dX0_happens_162 rfl rfl ?_
    refine r_dup dX0_happens_165 rfl ?_
    refine r_get bX1 8 (by decide) q181 dX0_happens_166 rfl rfl ?_
    refine r_iconst 1 dX0_happens_169 (by decide) ?_
    refine r_iadd dX0_happens_170 ?_
    refine r_put bX1 8 (by decide) rfl q181 dX0_happens_171 rfl rfl rfl (Nat.le_of_ble_eq_true rfl) ?_
    refine r_iload_n dX0_happens_174 rfl ?_
    exact r_iret dX0_happens_175 rfl (Nat.le_of_ble_eq_true rfl) (Nat.le_of_ble_eq_true rfl) (hq _ _ _ _ _ _)
  · intro l hl ih x
    have hIl := hI l
    have hTl := hT l
    have hHl := hHa l (by omega)
    refine r_iload_n dX0_happens_17 rfl ?_
    refine r_aload_n dX0_happens_18 rfl ?_
    refine r_get bX0 0 (by decide) q246 dX0_happens_19 rfl rfl ?_
    refine r_get bX1 7 (by decide) q179 dX0_happens_22 rfl rfl ?_
    refine r_icmp_ge 143 dX0_happens_25 (by decide) (fun c_ => absurd c_ (geF hl (by omega))) (fun _ => ?_)
    refine r_iconst 0 dX0_happens_28 (by decide) ?_
    refine r_istore dX0_happens_29 (Nat.le_of_ble_eq_true rfl) ?_
    have hHp := hp_HsI (l := l) (S := haF th E.2.1 hs l) hP (ht l) (by omega) hHl
    refine loopUp (N := 12) (P := fun p => Rch (mX0_happens, 10, 0, 0, oQ Q) 0 0 31 [some (.ref 1), some (.int s), some (.int (hpF th (E.2.1 l) l (haF th E.2.1 hs l) p).1), some (.int (nI l)), some (.int (nI p))] [] (r0, (xC (.ref 2) iv tP tL tA tK tC tS tH tN tE tZ tf mP mf (E.1) (E.2.1) (E.2.2) (ef2) (eg) (.ref 2) rx gx wx hv tp td rf rc ic), (wC th pf nl ag lk co (siF th E.2.1 E.2.2 sh l) ((hpF th (E.2.1 l) l (haF th E.2.1 hs l) p).2) (nI n) ev se lc), r3)) ?_ ?_
    · rw [show haF th E.2.1 hs (l + 1) = hpF th (E.2.1 l) l (haF th E.2.1 hs l) 12 from rfl] at ih
      generalize hpF th (E.2.1 l) l (haF th E.2.1 hs l) 12 = HP at ih ⊢
      by_cases g : E.2.1 l = 0
      · have g2 : E.2.2 l = -1 := hTl.mp g
        rw [siF, if_pos g] at ih
        refine r_iload dX0_happens_31 rfl ?_
        refine r_bipush 12 dX0_happens_33 (by decide) ?_
        refine r_icmp_ge 86 dX0_happens_35 (by decide) (fun _ => ?_) (fun c_ => absurd (geT 12) c_)
        refine r_aload_n dX0_happens_86 rfl ?_
        refine r_get bX0 4 (by decide) q250 dX0_happens_87 rfl rfl ?_
        refine r_get bX3 2 (by decide) q220 dX0_happens_90 rfl rfl ?_
        refine r_iload_n dX0_happens_93 rfl ?_
        refine r_ialdN dX0_happens_94 rfl (by omega) (Nat.le_of_ble_eq_true rfl) ?_
        refine r_istore dX0_happens_95 (Nat.le_of_ble_eq_true rfl) ?_
        refine r_aload_n dX0_happens_97 rfl ?_
        refine r_get bX0 0 (by decide) q246 dX0_happens_98 rfl rfl ?_
        refine r_get bX1 5 (by decide) q174 dX0_happens_101 rfl rfl ?_
        refine r_iload_n dX0_happens_104 rfl ?_
        refine r_iload dX0_happens_105 rfl ?_
        refine r_iconst (-1) dX0_happens_107 (by decide) ?_
        refine r_icmp_ne 123 dX0_happens_108 (by decide) (fun c_ => absurd (g2) c_) (fun _ => ?_)
        refine r_aload_n dX0_happens_111 rfl ?_
        refine r_get bX0 0 (by decide) q246 dX0_happens_112 rfl rfl ?_
        refine r_get bX1 5 (by decide) q174 dX0_happens_115 rfl rfl ?_
        refine r_iload_n dX0_happens_118 rfl ?_
        refine r_ialdN dX0_happens_119 rfl (by omega) (Nat.le_of_ble_eq_true rfl) ?_
        refine r_goto 136 dX0_happens_120 (by decide) ?_
        refine r_iastN dX0_happens_136 rfl (by omega) (Nat.le_of_ble_eq_true rfl) ?_
        simp only [upd_id]
        refine r_iincV dX0_happens_137 rfl (Nat.le_of_ble_eq_true rfl) (incN _) ?_
        refine r_goto 17 dX0_happens_140 (by decide) ?_
        exact ih _
      · obtain ⟨q, hq2, eq⟩ := hIl.2.2 g
        have eq2 : E.2.2 l = nI q := eq
        have g2 : ¬ E.2.2 l = -1 := fun z => g (hTl.mpr z)
        rw [siF, if_neg g, eq2, nI_clamp (by omega)] at ih
        refine r_iload dX0_happens_31 rfl ?_
        refine r_bipush 12 dX0_happens_33 (by decide) ?_
        refine r_icmp_ge 86 dX0_happens_35 (by decide) (fun _ => ?_) (fun c_ => absurd (geT 12) c_)
        refine r_aload_n dX0_happens_86 rfl ?_
        refine r_get bX0 4 (by decide) q250 dX0_happens_87 rfl rfl ?_
        refine r_get bX3 2 (by decide) q220 dX0_happens_90 rfl rfl ?_
        refine r_iload_n dX0_happens_93 rfl ?_
        refine r_ialdN dX0_happens_94 rfl (by omega) (Nat.le_of_ble_eq_true rfl) ?_
        refine r_istore dX0_happens_95 (Nat.le_of_ble_eq_true rfl) ?_
        refine r_aload_n dX0_happens_97 rfl ?_
        refine r_get bX0 0 (by decide) q246 dX0_happens_98 rfl rfl ?_
        refine r_get bX1 5 (by decide) q174 dX0_happens_101 rfl rfl ?_
        refine r_iload_n dX0_happens_104 rfl ?_
        refine r_iload dX0_happens_105 rfl ?_
        refine r_iconst (-1) dX0_happens_107 (by decide) ?_
        refine r_icmp_ne 123 dX0_happens_108 (by decide) (fun _ => ?_) (fun c_ => absurd c_ (g2))
        refine r_aload_n dX0_happens_123 rfl ?_
        refine r_get bX0 0 (by decide) q246 dX0_happens_124 rfl rfl ?_
        refine r_get bX1 0 (by decide) q160 dX0_happens_127 rfl rfl ?_
        refine r_get bX2 0 (by decide) q146 dX0_happens_130 rfl rfl ?_
        refine r_iload dX0_happens_133 rfl ?_
        rw [eq2]
        refine r_ialdN dX0_happens_135 rfl (by omega) (Nat.le_of_ble_eq_true rfl) ?_
        refine r_iastN dX0_happens_136 rfl (by omega) (Nat.le_of_ble_eq_true rfl) ?_
        refine r_iincV dX0_happens_137 rfl (Nat.le_of_ble_eq_true rfl) (incN _) ?_
        refine r_goto 17 dX0_happens_140 (by decide) ?_
        exact ih _
    · intro p hp ih2
      have hHp2 := hHp p (by omega)
      refine r_iload dX0_happens_31 rfl ?_
      refine r_bipush 12 dX0_happens_33 (by decide) ?_
      refine r_icmp_ge 86 dX0_happens_35 (by decide) (fun c_ => absurd c_ (geF hp (by decide))) (fun _ => ?_)
      refine r_aload_n dX0_happens_38 rfl ?_
      refine r_get bX0 4 (by decide) q250 dX0_happens_39 rfl rfl ?_
      refine r_get bX3 1 (by decide) q218 dX0_happens_42 rfl rfl ?_
      refine r_iload_n dX0_happens_45 rfl ?_
      refine r_ialdN dX0_happens_46 rfl (by omega) (Nat.le_of_ble_eq_true rfl) ?_
      refine r_iload dX0_happens_47 rfl ?_
      refine r_callS (as := [_, _]) okX0_has q974 dX0_happens_49 (Nat.le_of_ble_eq_true rfl) rfl (Nat.le_of_ble_eq_true rfl) (Nat.le_of_ble_eq_true rfl) (Nat.le_of_ble_eq_true rfl) (pX0_has ?_)
      refine r_if_eq 80 dX0_happens_52 (by decide) (fun c_52 => ?_) (fun c_52 => ?_)
      · have g := b2i_0.mp c_52
        rw [hpF, if_neg (by rw [g]; decide)] at ih2
        refine r_iincV dX0_happens_80 rfl (Nat.le_of_ble_eq_true rfl) (incN _) ?_
        refine r_goto 31 dX0_happens_83 (by decide) ?_
        exact ih2
      · have g := b2i_n.mp c_52
        have g2 : th p ≠ -1 := ht l p hp g
        obtain ⟨z, hz, ez⟩ : ∃ z, z < 8 ∧ th p = nI z := (hP p hp).resolve_left g2
        obtain ⟨y, hy, ey⟩ := hHp2 (8 * l + z) (by omega)
        have e8 := (mm_up hy).1
        rw [← ey] at e8
        rw [hpF, if_pos g, ez, nI_clamp (by omega)] at ih2
        refine r_aload_n dX0_happens_55 rfl ?_
        refine r_get bX0 0 (by decide) q246 dX0_happens_56 rfl rfl ?_
        refine r_iload_n dX0_happens_59 rfl ?_
        refine r_aload_n dX0_happens_60 rfl ?_
        refine r_get bX0 0 (by decide) q246 dX0_happens_61 rfl rfl ?_
        refine r_get bX1 0 (by decide) q160 dX0_happens_64 rfl rfl ?_
        refine r_get bX2 0 (by decide) q146 dX0_happens_67 rfl rfl ?_
        refine r_iload dX0_happens_70 rfl ?_
        refine r_ialdN dX0_happens_72 rfl (by omega) (Nat.le_of_ble_eq_true rfl) ?_
        rw [ez]
        refine r_iconst 1 dX0_happens_73 (by decide) ?_
        refine r_callV (as := [_, _, _]) okX1_holds bX1 rfl rfl q1466 dX0_happens_74 (Nat.le_of_ble_eq_true rfl) rfl (Nat.le_of_ble_eq_true rfl) (Nat.le_of_ble_eq_true rfl) (Nat.le_of_ble_eq_true rfl) (pX1_holds (x := l) (s := z) (by omega) hz rfl rfl ?_)
        rw [e8]
        refine r_iincV dX0_happens_77 rfl (Nat.le_of_ble_eq_true rfl) (inc1 _) ?_
        refine r_iincV dX0_happens_80 rfl (Nat.le_of_ble_eq_true rfl) (incN _) ?_
        refine r_goto 31 dX0_happens_83 (by decide) ?_
        exact ih2
theorem pX0_evening {s : Int32} (hn : n ≤ 8) (hL : LkI lc r3 nl kN ow n) (hP : ThI th) (hH : HsI hs) (hbad : inB s 0 (allS n) = false → Q (some (.int (-2))) (r0, (xC (.ref 2) iv tP tL tA tK tC tS tH tN tE tZ tf mP mf eP eT eF ef eg ew rx gx wx hv tp td (upd rf 2 (rf 2 + 1)) rc ic), (wC th pf nl ag lk co sh hs (nI n) ev se lc), r3)) (hok : inB s 0 (allS n) = true → ∀ (eP eT eF : Nat → Int32) (ef eg : Int32) (ew : Value), Q (some (.int (haF th (evR kN ow lk ag n th s).2.1 hs n).1)) (r0, (xC (.ref 2) iv tP tL tA tK tC tS tH tN tE tZ tf mP mf eP eT eF ef eg ew rx gx wx hv tp td rf rc ic), (wC ((evR kN ow lk ag n th s).1) pf nl ag lk co (siF th (evR kN ow lk ag n th s).2.1 (evR kN ow lk ag n th s).2.2 sh n) ((haF th (evR kN ow lk ag n th s).2.1 hs n).2) (nI n) (ev + 1) se lc), r3)) : AMet mX0_evening 11 0 0 [.ref 1, .int s] (r0, (xC (.ref 2) iv tP tL tA tK tC tS tH tN tE tZ tf mP mf eP eT eF ef eg ew rx gx wx hv tp td rf rc ic), (wC th pf nl ag lk co sh hs (nI n) ev se lc), r3) Q := by
  refine AMet.ofRch rfl rfl (Nat.le_of_ble_eq_true rfl) ?_
  refine r_aload_n dX0_evening_0 rfl ?_
  refine r_iload_n dX0_evening_1 rfl ?_
  refine r_callV (as := [_]) okX0_isSet bX0 rfl rfl q1219 dX0_evening_2 (Nat.le_of_ble_eq_true rfl) rfl (Nat.le_of_ble_eq_true rfl) (Nat.le_of_ble_eq_true rfl) (Nat.le_of_ble_eq_true rfl) (pX0_isSet hn ?_)
  refine r_if_eq 16 dX0_evening_5 (by decide) (fun c_5 => ?_) (fun c_5 => ?_)
  · refine r_aload_n dX0_evening_16 rfl ?_
    refine r_bipush (-2) dX0_evening_17 (by decide) ?_
    refine r_callV (as := [_]) okX0_no bX0 rfl rfl q381 dX0_evening_19 (Nat.le_of_ble_eq_true rfl) rfl (Nat.le_of_ble_eq_true rfl) (Nat.le_of_ble_eq_true rfl) (Nat.le_of_ble_eq_true rfl) (pX0_no 2 (by decide) (by decide) ?_)
    exact r_iret dX0_evening_22 rfl (Nat.le_of_ble_eq_true rfl) (Nat.le_of_ble_eq_true rfl) (by first | exact hok (b2i_n.mp c_5) _ _ _ _ _ _ | exact hbad (b2i_0.mp c_5))
  · refine r_aload_n dX0_evening_8 rfl ?_
    refine r_iload_n dX0_evening_9 rfl ?_
    refine r_callV (as := [_]) okX0_happens bX0 rfl rfl q1462 dX0_evening_10 (Nat.le_of_ble_eq_true rfl) rfl (Nat.le_of_ble_eq_true rfl) (Nat.le_of_ble_eq_true rfl) (Nat.le_of_ble_eq_true rfl) (pX0_happens hn hL hP hH (fun eP eT eF ef eg ew => ?_))
    refine r_goto 22 dX0_evening_13 (by decide) ?_
    exact r_iret dX0_evening_22 rfl (Nat.le_of_ble_eq_true rfl) (Nat.le_of_ble_eq_true rfl) (by first | exact hok (b2i_n.mp c_5) _ _ _ _ _ _ | exact hbad (b2i_0.mp c_5))
theorem pX1_draw {h : AHp} {o : Nat} {m z : Int32} {wp wl wa wk wc ws wh wn we : Value} (hm : ¬ m = 0) (ho : aGet h o = some (.inr (1, [wp, wl, wa, wk, wc, ws, wh, wn, we, .int z]))) (hQ : Q (some (.int (drV (drN z) m))) (aSet h o (.inr (1, [wp, wl, wa, wk, wc, ws, wh, wn, we, .int (drN z)])))) : AMet mX1_draw 1 0 0 [.ref o, .int m] h Q := by
  refine AMet.ofRch rfl rfl (Nat.le_of_ble_eq_true rfl) ?_
  refine r_aload_n dX1_draw_0 rfl ?_
  refine r_aload_n dX1_draw_1 rfl ?_
  refine r_get bX1 9 (by decide) q182 dX1_draw_2 ho rfl ?_
  refine r_ldc q1488 dX1_draw_5 ?_
  refine r_imul dX1_draw_7 ?_
  refine r_sipush 12345 dX1_draw_8 (by decide) ?_
  refine r_iadd dX1_draw_11 ?_
  refine r_put bX1 9 (by decide) rfl q182 dX1_draw_12 rfl rfl ho (Nat.le_of_ble_eq_true rfl) ?_
  refine r_aload_n dX1_draw_15 rfl ?_
  refine r_get bX1 9 (by decide) q182 dX1_draw_16 (aGet_same ho) rfl ?_
  refine r_bipush 16 dX1_draw_19 (by decide) ?_
  refine r_iushr dX1_draw_21 ?_
  refine r_iload_n dX1_draw_22 rfl ?_
  refine r_irem dX1_draw_23 (hm) ?_
  exact r_iret dX1_draw_24 rfl (Nat.le_of_ble_eq_true rfl) (Nat.le_of_ble_eq_true rfl) (hQ)
theorem chS_HsI {w : Nat} {kN : Nat → Nat} {ow lk ag co : Nat → Int32} {n : Nat} {S : CS} (hn : n ≤ 8) (ho : ∀ j, j < n → ow j ≠ -1) (h : ThI S.1) (hH : HsI S.2.2.1) : HsI (chS w kN ow lk ag co n S).2.2.1 :=
  ha_HsI h (fun l q hq g => (ev_RsI (kN := kN) (lk := lk) (ag := ag) (s := (dsF co S.2.2.2.2.1 n).1) ho l).2.1 q hq g) hH n hn
theorem ch_HsI {w : Nat} {kN : Nat → Nat} {ow lk ag co : Nat → Int32} {n : Nat} {S : CS} (hn : n ≤ 8) (ho : ∀ j, j < n → ow j ≠ -1) (h : ThI S.1) (hH : HsI S.2.2.1) (k : Nat) : HsI (chK w kN ow lk ag co n S k).2.2.1 := by
  induction k with
  | zero => exact hH
  | succ k ih =>
    rw [chK_s]
    exact chS_HsI hn ho (ch_ThI ho h k) ih
theorem pX0_christmas {w : Nat} (hw : w = 12) {m : Int32} (hn : n ≤ 8) (hL : LkI lc r3 nl kN ow n) (hP : ThI th) (hH : HsI hs) (hQ : ∀ v, (chS w kN ow lk ag co n (th, sh, hs, ev, se, m)).2.2.2.2.2 = m + v → ∀ (eP eT eF : Nat → Int32) (ef eg : Int32) (ew : Value), Q (some (.int v)) (r0, (xC (.ref 2) iv tP tL tA tK tC tS tH tN tE tZ tf mP mf eP eT eF ef eg ew rx gx wx hv tp td rf rc ic), (wC ((chS w kN ow lk ag co n (th, sh, hs, ev, se, m)).1) pf nl ag lk co ((chS w kN ow lk ag co n (th, sh, hs, ev, se, m)).2.1) ((chS w kN ow lk ag co n (th, sh, hs, ev, se, m)).2.2.1) (nI n) ((chS w kN ow lk ag co n (th, sh, hs, ev, se, m)).2.2.2.1) ((chS w kN ow lk ag co n (th, sh, hs, ev, se, m)).2.2.2.2.1) lc), r3)) : AMet mX0_christmas 11 0 0 [.ref 1] (r0, (xC (.ref 2) iv tP tL tA tK tC tS tH tN tE tZ tf mP mf eP eT eF ef eg ew rx gx wx hv tp td rf rc ic), (wC th pf nl ag lk co sh hs (nI n) ev se lc), r3) Q := by
  refine AMet.ofRch rfl rfl (Nat.le_of_ble_eq_true rfl) ?_
  have hq := hQ _ rfl
  refine r_iconst 0 dX0_christmas_0 (by decide) ?_
  refine r_istore_n dX0_christmas_1 (Nat.le_of_ble_eq_true rfl) ?_
  refine r_iconst 0 dX0_christmas_2 (by decide) ?_
  refine r_istore_n dX0_christmas_3 (Nat.le_of_ble_eq_true rfl) ?_
  refine loopUp (N := n) (P := fun q => Rch (mX0_christmas, 11, 0, 0, oQ Q) 0 0 4 [some (.ref 1), some (.int (dsF co se q).1), some (.int (nI q)), none] [] (r0, (xC (.ref 2) iv tP tL tA tK tC tS tH tN tE tZ tf mP mf eP eT eF ef eg ew rx gx wx hv tp td rf rc ic), (wC th pf nl ag lk co sh hs (nI n) ev ((dsF co se q).2) lc), r3)) ?_ ?_
  · refine r_iload_n dX0_christmas_4 rfl ?_
    refine r_aload_n dX0_christmas_5 rfl ?_
    refine r_get bX0 0 (by decide) q246 dX0_christmas_6 rfl rfl ?_
    refine r_get bX1 7 (by decide) q179 dX0_christmas_9 rfl rfl ?_
    refine r_icmp_ge 52 dX0_christmas_12 (by decide) (fun _ => ?_) (fun c_ => absurd (Int32.le_refl _) c_)
    refine r_aload_n dX0_christmas_52 rfl ?_
    refine r_iload_n dX0_christmas_53 rfl ?_
    refine r_callV (as := [_]) okX0_happens bX0 rfl rfl q1462 dX0_christmas_54 (Nat.le_of_ble_eq_true rfl) rfl (Nat.le_of_ble_eq_true rfl) (Nat.le_of_ble_eq_true rfl) (Nat.le_of_ble_eq_true rfl) (pX0_happens hn hL hP hH (fun eP eT eF ef eg ew => ?_))
    refine r_istore_n dX0_christmas_57 (Nat.le_of_ble_eq_true rfl) ?_
    refine r_iconst 0 dX0_christmas_58 (by decide) ?_
    refine r_istore_n dX0_christmas_59 (Nat.le_of_ble_eq_true rfl) ?_
    refine loopUp (N := w) (P := fun q => Rch (mX0_christmas, 11, 0, 0, oQ Q) 0 0 60 [some (.ref 1), some (.int (dsF co se n).1), some (.int (haF th (evR kN ow lk ag n th (dsF co se n).1).2.1 hs n).1), some (.int (nI q))] [] (r0, (xC (.ref 2) iv tP tL tA tK tC tS tH tN tE tZ tf mP mf eP eT eF ef eg ew rx gx wx hv tp td rf rc ic), (wC ((fpF (evR kN ow lk ag n th (dsF co se n).1).1 (dsF co se n).2 q).1) pf nl ag lk co (siF th (evR kN ow lk ag n th (dsF co se n).1).2.1 (evR kN ow lk ag n th (dsF co se n).1).2.2 sh n) ((haF th (evR kN ow lk ag n th (dsF co se n).1).2.1 hs n).2) (nI n) (ev + 1) ((fpF (evR kN ow lk ag n th (dsF co se n).1).1 (dsF co se n).2 q).2) lc), r3)) ?_ ?_
    · refine r_iload_n dX0_christmas_60 rfl ?_
      refine r_bipush 12 dX0_christmas_61 (by decide) ?_
      refine r_icmp_ge 124 dX0_christmas_63 (by decide) (fun _ => ?_) (fun c_ => absurd (by rw [hw]; exact geT 12) c_)
      refine r_iload_n dX0_christmas_124 rfl ?_
      exact r_iret dX0_christmas_125 rfl (Nat.le_of_ble_eq_true rfl) (Nat.le_of_ble_eq_true rfl) (hq _ _ _ _ _ _)
    · intro q hq2 ih2
      by_cases g : (fpF (evR kN ow lk ag n th (dsF co se n).1).1 (dsF co se n).2 q).1 q = -1
      · rw [fpF, if_pos g] at ih2
        refine r_iload_n dX0_christmas_60 rfl ?_
        refine r_bipush 12 dX0_christmas_61 (by decide) ?_
        refine r_icmp_ge 124 dX0_christmas_63 (by decide) (fun c_ => absurd c_ (geF (N := 12) (by omega) (by decide))) (fun _ => ?_)
        refine r_aload_n dX0_christmas_66 rfl ?_
        refine r_get bX0 0 (by decide) q246 dX0_christmas_67 rfl rfl ?_
        refine r_get bX1 0 (by decide) q160 dX0_christmas_70 rfl rfl ?_
        refine r_get bX2 0 (by decide) q146 dX0_christmas_73 rfl rfl ?_
        refine r_iload_n dX0_christmas_76 rfl ?_
        refine r_aload_n dX0_christmas_77 rfl ?_
        refine r_get bX0 0 (by decide) q246 dX0_christmas_78 rfl rfl ?_
        refine r_get bX1 0 (by decide) q160 dX0_christmas_81 rfl rfl ?_
        refine r_get bX2 0 (by decide) q146 dX0_christmas_84 rfl rfl ?_
        refine r_iload_n dX0_christmas_87 rfl ?_
        refine r_ialdN dX0_christmas_88 rfl (by omega) (Nat.le_of_ble_eq_true rfl) ?_
        refine r_iconst (-1) dX0_christmas_89 (by decide) ?_
        refine r_icmp_ne 105 dX0_christmas_90 (by decide) (fun c_ => absurd (g) c_) (fun _ => ?_)
        refine r_aload_n dX0_christmas_93 rfl ?_
        refine r_get bX0 0 (by decide) q246 dX0_christmas_94 rfl rfl ?_
        refine r_bipush 8 dX0_christmas_97 (by decide) ?_
        refine r_callV (as := [_]) okX1_draw bX1 rfl rfl q1484 dX0_christmas_99 (Nat.le_of_ble_eq_true rfl) rfl (Nat.le_of_ble_eq_true rfl) (Nat.le_of_ble_eq_true rfl) (Nat.le_of_ble_eq_true rfl) (pX1_draw (by decide) rfl ?_)
        refine r_goto 117 dX0_christmas_102 (by decide) ?_
        refine r_iastN dX0_christmas_117 rfl (by omega) (Nat.le_of_ble_eq_true rfl) ?_
        refine r_iincV dX0_christmas_118 rfl (Nat.le_of_ble_eq_true rfl) (incN _) ?_
        refine r_goto 60 dX0_christmas_121 (by decide) ?_
        exact ih2
      · rw [fpF, if_neg g] at ih2
        refine r_iload_n dX0_christmas_60 rfl ?_
        refine r_bipush 12 dX0_christmas_61 (by decide) ?_
        refine r_icmp_ge 124 dX0_christmas_63 (by decide) (fun c_ => absurd c_ (geF (N := 12) (by omega) (by decide))) (fun _ => ?_)
        refine r_aload_n dX0_christmas_66 rfl ?_
        refine r_get bX0 0 (by decide) q246 dX0_christmas_67 rfl rfl ?_
        refine r_get bX1 0 (by decide) q160 dX0_christmas_70 rfl rfl ?_
        refine r_get bX2 0 (by decide) q146 dX0_christmas_73 rfl rfl ?_
        refine r_iload_n dX0_christmas_76 rfl ?_
        refine r_aload_n dX0_christmas_77 rfl ?_
        refine r_get bX0 0 (by decide) q246 dX0_christmas_78 rfl rfl ?_
        refine r_get bX1 0 (by decide) q160 dX0_christmas_81 rfl rfl ?_
        refine r_get bX2 0 (by decide) q146 dX0_christmas_84 rfl rfl ?_
        refine r_iload_n dX0_christmas_87 rfl ?_
        refine r_ialdN dX0_christmas_88 rfl (by omega) (Nat.le_of_ble_eq_true rfl) ?_
        refine r_iconst (-1) dX0_christmas_89 (by decide) ?_
        refine r_icmp_ne 105 dX0_christmas_90 (by decide) (fun _ => ?_) (fun c_ => absurd c_ (g))
        refine r_aload_n dX0_christmas_105 rfl ?_
        refine r_get bX0 0 (by decide) q246 dX0_christmas_106 rfl rfl ?_
        refine r_get bX1 0 (by decide) q160 dX0_christmas_109 rfl rfl ?_
        refine r_get bX2 0 (by decide) q146 dX0_christmas_112 rfl rfl ?_
        refine r_iload_n dX0_christmas_115 rfl ?_
        refine r_ialdN dX0_christmas_116 rfl (by omega) (Nat.le_of_ble_eq_true rfl) ?_
        refine r_iastN dX0_christmas_117 rfl (by omega) (Nat.le_of_ble_eq_true rfl) ?_
        simp only [upd_id]
        refine r_iincV dX0_christmas_118 rfl (Nat.le_of_ble_eq_true rfl) (incN _) ?_
        refine r_goto 60 dX0_christmas_121 (by decide) ?_
        exact ih2
  · intro q hq2 ih2
    refine r_iload_n dX0_christmas_4 rfl ?_
    refine r_aload_n dX0_christmas_5 rfl ?_
    refine r_get bX0 0 (by decide) q246 dX0_christmas_6 rfl rfl ?_
    refine r_get bX1 7 (by decide) q179 dX0_christmas_9 rfl rfl ?_
    refine r_icmp_ge 52 dX0_christmas_12 (by decide) (fun c_ => absurd c_ (geF hq2 (by omega))) (fun _ => ?_)
    refine r_iload_n dX0_christmas_15 rfl ?_
    refine r_aload_n dX0_christmas_16 rfl ?_
    refine r_get bX0 0 (by decide) q246 dX0_christmas_17 rfl rfl ?_
    refine r_bipush 12 dX0_christmas_20 (by decide) ?_
    refine r_callV (as := [_]) okX1_draw bX1 rfl rfl q1484 dX0_christmas_22 (Nat.le_of_ble_eq_true rfl) rfl (Nat.le_of_ble_eq_true rfl) (Nat.le_of_ble_eq_true rfl) (Nat.le_of_ble_eq_true rfl) (pX1_draw (by decide) rfl ?_)
    refine r_aload_n dX0_christmas_25 rfl ?_
    refine r_get bX0 0 (by decide) q246 dX0_christmas_26 rfl rfl ?_
    refine r_get bX1 4 (by decide) q171 dX0_christmas_29 rfl rfl ?_
    refine r_iload_n dX0_christmas_32 rfl ?_
    refine r_ialdN dX0_christmas_33 rfl (by omega) (Nat.le_of_ble_eq_true rfl) ?_
    refine r_icmp_ge 43 dX0_christmas_34 (by decide) (fun c_34 => ?_) (fun c_34 => ?_)
    · refine r_iconst 0 dX0_christmas_43 (by decide) ?_
      refine r_ior dX0_christmas_44 ?_
      refine r_istore_n dX0_christmas_45 (Nat.le_of_ble_eq_true rfl) ?_
      refine r_iincV dX0_christmas_46 rfl (Nat.le_of_ble_eq_true rfl) (incN _) ?_
      refine r_goto 4 dX0_christmas_49 (by decide) ?_
      first | (have q1 := Int32.not_lt.mpr c_34; rw [dsF, if_neg q1] at ih2; rw [or0]; exact ih2) | (have q1 := Int32.not_le.mp c_34; rw [dsF, if_pos q1] at ih2; exact ih2)
    · refine r_iconst 1 dX0_christmas_37 (by decide) ?_
      refine r_iload_n dX0_christmas_38 rfl ?_
      refine r_ishl dX0_christmas_39 ?_
      refine r_goto 44 dX0_christmas_40 (by decide) ?_
      refine r_ior dX0_christmas_44 ?_
      refine r_istore_n dX0_christmas_45 (Nat.le_of_ble_eq_true rfl) ?_
      refine r_iincV dX0_christmas_46 rfl (Nat.le_of_ble_eq_true rfl) (incN _) ?_
      refine r_goto 4 dX0_christmas_49 (by decide) ?_
      first | (have q1 := Int32.not_lt.mpr c_34; rw [dsF, if_neg q1] at ih2; rw [or0]; exact ih2) | (have q1 := Int32.not_le.mp c_34; rw [dsF, if_pos q1] at ih2; exact ih2)
theorem pX0_christmases {w : Nat} (hw : w = 12) {c : Int32} (hn : n ≤ 8) (hL : LkI lc r3 nl kN ow n) (hP : ThI th) (hH : HsI hs) (hbad : inB c 1 40 = false → Q (some (.int (-2))) (r0, (xC (.ref 2) iv tP tL tA tK tC tS tH tN tE tZ tf mP mf eP eT eF ef eg ew rx gx wx hv tp td (upd rf 2 (rf 2 + 1)) rc ic), (wC th pf nl ag lk co sh hs (nI n) ev se lc), r3)) (hok : ∀ m, 1 ≤ m → m ≤ 40 → c = nI m → ∀ (eP eT eF : Nat → Int32) (ef eg : Int32) (ew : Value), Q (some (.int (chK w kN ow lk ag co n (th, sh, hs, ev, se, 0) m).2.2.2.2.2)) (r0, (xC (.ref 2) iv tP tL tA tK tC tS tH tN tE tZ tf mP mf eP eT eF ef eg ew rx gx wx hv tp td rf rc ic), (wC ((chK w kN ow lk ag co n (th, sh, hs, ev, se, 0) m).1) pf nl ag lk co ((chK w kN ow lk ag co n (th, sh, hs, ev, se, 0) m).2.1) ((chK w kN ow lk ag co n (th, sh, hs, ev, se, 0) m).2.2.1) (nI n) ((chK w kN ow lk ag co n (th, sh, hs, ev, se, 0) m).2.2.2.1) ((chK w kN ow lk ag co n (th, sh, hs, ev, se, 0) m).2.2.2.2.1) lc), r3)) : AMet mX0_christmases 12 0 0 [.ref 1, .int c] (r0, (xC (.ref 2) iv tP tL tA tK tC tS tH tN tE tZ tf mP mf eP eT eF ef eg ew rx gx wx hv tp td rf rc ic), (wC th pf nl ag lk co sh hs (nI n) ev se lc), r3) Q := by
  refine AMet.ofRch rfl rfl (Nat.le_of_ble_eq_true rfl) ?_
  have ho : ∀ j, j < n → ow j ≠ -1 := by
    intro j hj
    obtain ⟨-, ⟨w, hw, e⟩, -⟩ := hL j hj
    rw [e]; exact nI_m1 (by omega)
  have hgo : ∀ m, 1 ≤ m → m ≤ 40 → c = nI m → Rch (mX0_christmases, 12, 0, 0, oQ Q) 0 0 17 [some (.ref 1), some (.int c), none, none] [] (r0, (xC (.ref 2) iv tP tL tA tK tC tS tH tN tE tZ tf mP mf eP eT eF ef eg ew rx gx wx hv tp td rf rc ic), (wC th pf nl ag lk co sh hs (nI n) ev se lc), r3) := by
    intro m hm1 hm2 e
    subst e
    have hI := fun k => ch_ThI (w := w) (kN := kN) (lk := lk) (ag := ag) (co := co) (S := (th, sh, hs, ev, se, 0)) ho hP k
    have hI2 := fun k => ch_HsI (w := w) (kN := kN) (lk := lk) (ag := ag) (co := co) (S := (th, sh, hs, ev, se, 0)) hn ho hP hH k
    refine r_iconst 0 dX0_christmases_17 (by decide) ?_
    refine r_istore_n dX0_christmases_18 (Nat.le_of_ble_eq_true rfl) ?_
    refine r_iconst 0 dX0_christmases_19 (by decide) ?_
    refine r_istore_n dX0_christmases_20 (Nat.le_of_ble_eq_true rfl) ?_
    refine loopUp (N := m) (P := fun m' => ∀ (eP eT eF : Nat → Int32) (ef eg : Int32) (ew : Value), Rch (mX0_christmases, 12, 0, 0, oQ Q) 0 0 21 [some (.ref 1), some (.int (nI m)), some (.int (chK w kN ow lk ag co n (th, sh, hs, ev, se, 0) m').2.2.2.2.2), some (.int (nI m'))] [] (r0, (xC (.ref 2) iv tP tL tA tK tC tS tH tN tE tZ tf mP mf eP eT eF ef eg ew rx gx wx hv tp td rf rc ic), (wC ((chK w kN ow lk ag co n (th, sh, hs, ev, se, 0) m').1) pf nl ag lk co ((chK w kN ow lk ag co n (th, sh, hs, ev, se, 0) m').2.1) ((chK w kN ow lk ag co n (th, sh, hs, ev, se, 0) m').2.2.1) (nI n) ((chK w kN ow lk ag co n (th, sh, hs, ev, se, 0) m').2.2.2.1) ((chK w kN ow lk ag co n (th, sh, hs, ev, se, 0) m').2.2.2.2.1) lc), r3)) ?_ ?_ _ _ _ _ _ _
    · intro eP eT eF ef eg ew
      refine r_iload_n dX0_christmases_21 rfl ?_
      refine r_iload_n dX0_christmases_22 rfl ?_
      refine r_icmp_ge 39 dX0_christmases_23 (by decide) (fun _ => ?_) (fun c_ => absurd (Int32.le_refl _) c_)
      refine r_iload_n dX0_christmases_39 rfl ?_
      exact r_iret dX0_christmases_40 rfl (Nat.le_of_ble_eq_true rfl) (Nat.le_of_ble_eq_true rfl) (hok m hm1 hm2 rfl _ _ _ _ _ _)
    · intro k hk2 ih eP eT eF ef eg ew
      have hIk := hI k
      have hHk := hI2 k
      simp only [chK] at ih
      generalize chK w kN ow lk ag co n (th, sh, hs, ev, se, 0) k = S at ih hIk hHk ⊢
      obtain ⟨s1, s2, s3, s4, s5, s6⟩ := S
      refine r_iload_n dX0_christmases_21 rfl ?_
      refine r_iload_n dX0_christmases_22 rfl ?_
      refine r_icmp_ge 39 dX0_christmases_23 (by decide) (fun c_ => absurd c_ (geF hk2 (by omega))) (fun _ => ?_)
      refine r_iload_n dX0_christmases_26 rfl ?_
      refine r_aload_n dX0_christmases_27 rfl ?_
      refine r_callV (as := []) okX0_christmas bX0 rfl rfl q1480 dX0_christmases_28 (Nat.le_of_ble_eq_true rfl) rfl (Nat.le_of_ble_eq_true rfl) (Nat.le_of_ble_eq_true rfl) (Nat.le_of_ble_eq_true rfl) (pX0_christmas (w := w) (m := s6) hw hn hL hIk hHk (fun v ev2 eP eT eF ef eg ew => ?_))
      refine r_iadd dX0_christmases_31 ?_
      refine r_istore_n dX0_christmases_32 (Nat.le_of_ble_eq_true rfl) ?_
      refine r_iincV dX0_christmases_33 rfl (Nat.le_of_ble_eq_true rfl) (incN _) ?_
      refine r_goto 21 dX0_christmases_36 (by decide) ?_
      rw [ev2] at ih
      exact ih _ _ _ _ _ _
  refine r_iload_n dX0_christmases_0 rfl ?_
  refine r_iconst 1 dX0_christmases_1 (by decide) ?_
  refine r_bipush 40 dX0_christmases_2 (by decide) ?_
  refine r_callS (as := [_, _, _]) okX0_isIn q378 dX0_christmases_4 (Nat.le_of_ble_eq_true rfl) rfl (Nat.le_of_ble_eq_true rfl) (Nat.le_of_ble_eq_true rfl) (Nat.le_of_ble_eq_true rfl) (pX0_isIn ?_)
  refine r_if_ne 17 dX0_christmases_7 (by decide) (fun c_7 => ?_) (fun c_7 => ?_)
  · obtain ⟨m, g1, g2, e⟩ := inB_ex2 (a := 1) (b := 40) (by decide) (by decide) (b2i_n.mp c_7)
    exact hgo m g1 g2 e
  · refine r_aload_n dX0_christmases_10 rfl ?_
    refine r_bipush (-2) dX0_christmases_11 (by decide) ?_
    refine r_callV (as := [_]) okX0_no bX0 rfl rfl q381 dX0_christmases_13 (Nat.le_of_ble_eq_true rfl) rfl (Nat.le_of_ble_eq_true rfl) (Nat.le_of_ble_eq_true rfl) (Nat.le_of_ble_eq_true rfl) (pX0_no 2 (by decide) (by decide) ?_)
    exact r_iret dX0_christmases_16 rfl (Nat.le_of_ble_eq_true rfl) (Nat.le_of_ble_eq_true rfl) (hbad (b2i_0.mp c_7))
theorem pX0_seed {v : Int32} (hQ : Q (some (.int se)) (r0, (xC (.ref 2) iv tP tL tA tK tC tS tH tN tE tZ tf mP mf eP eT eF ef eg ew rx gx wx hv tp td rf rc ic), (wC th pf nl ag lk co sh hs my ev (v) lc), r3)) : AMet mX0_seed 1 0 0 [.ref 1, .int v] (r0, (xC (.ref 2) iv tP tL tA tK tC tS tH tN tE tZ tf mP mf eP eT eF ef eg ew rx gx wx hv tp td rf rc ic), (wC th pf nl ag lk co sh hs my ev se lc), r3) Q := by
  refine AMet.ofRch rfl rfl (Nat.le_of_ble_eq_true rfl) ?_
  refine r_aload_n dX0_seed_0 rfl ?_
  refine r_get bX0 0 (by decide) q246 dX0_seed_1 rfl rfl ?_
  refine r_get bX1 9 (by decide) q183 dX0_seed_4 rfl rfl ?_
  refine r_istore_n dX0_seed_7 (Nat.le_of_ble_eq_true rfl) ?_
  refine r_aload_n dX0_seed_8 rfl ?_
  refine r_get bX0 0 (by decide) q246 dX0_seed_9 rfl rfl ?_
  refine r_iload_n dX0_seed_12 rfl ?_
  refine r_put bX1 9 (by decide) rfl q183 dX0_seed_13 rfl rfl rfl (Nat.le_of_ble_eq_true rfl) ?_
  refine r_iload_n dX0_seed_16 rfl ?_
  exact r_iret dX0_seed_17 rfl (Nat.le_of_ble_eq_true rfl) (Nat.le_of_ble_eq_true rfl) (hQ)
theorem pX0_wipe {h2 : List AC} (hQ : Q (some (.int td)) (r0, (xC (.ref 2) iv tP tL tA tK tC tS tH tN tE tZ tf mP mf eP eT eF ef eg ew rx gx wx hv tp (0) rf rc ic), h2, r3)) : AMet mX0_wipe 1 0 0 [.ref 1] (r0, (xC (.ref 2) iv tP tL tA tK tC tS tH tN tE tZ tf mP mf eP eT eF ef eg ew rx gx wx hv tp td rf rc ic), h2, r3) Q := by
  refine AMet.ofRch rfl rfl (Nat.le_of_ble_eq_true rfl) ?_
  refine r_aload_n dX0_wipe_0 rfl ?_
  refine r_get bX0 10 (by decide) q256 dX0_wipe_1 rfl rfl ?_
  refine r_istore_n dX0_wipe_4 (Nat.le_of_ble_eq_true rfl) ?_
  refine r_aload_n dX0_wipe_5 rfl ?_
  refine r_iconst 0 dX0_wipe_6 (by decide) ?_
  refine r_put bX0 10 (by decide) rfl q256 dX0_wipe_7 rfl rfl rfl (Nat.le_of_ble_eq_true rfl) ?_
  refine r_iload_n dX0_wipe_10 rfl ?_
  exact r_iret dX0_wipe_11 rfl (Nat.le_of_ble_eq_true rfl) (Nat.le_of_ble_eq_true rfl) (hQ)
theorem pX0_feed {h2 : List AC} {t : Nat} {c : Int32} (ht : t ≤ 250) (hbad : inB c 0 255 = false → Q (some (.int (-2))) (r0, (xC (.ref 2) iv tP tL tA tK tC tS tH tN tE tZ tf mP mf eP eT eF ef eg ew rx gx wx hv tp (nI t) (upd rf 2 (rf 2 + 1)) rc ic), h2, r3)) (hfull : inB c 0 255 = true → t = 250 → Q (some (.int (-6))) (r0, (xC (.ref 2) iv tP tL tA tK tC tS tH tN tE tZ tf mP mf eP eT eF ef eg ew rx gx wx hv tp (nI t) (upd rf 6 (rf 6 + 1)) rc ic), h2, r3)) (hok : inB c 0 255 = true → t < 250 → Q (some (.int (nI (t + 1)))) (r0, (xC (.ref 2) iv tP tL tA tK tC tS tH tN tE tZ tf mP mf eP eT eF ef eg ew rx gx wx hv (upd tp t c) (nI (t + 1)) rf rc ic), h2, r3)) : AMet mX0_feed 2 0 0 [.ref 1, .int c] (r0, (xC (.ref 2) iv tP tL tA tK tC tS tH tN tE tZ tf mP mf eP eT eF ef eg ew rx gx wx hv tp (nI t) rf rc ic), h2, r3) Q := by
  refine AMet.ofRch rfl rfl (Nat.le_of_ble_eq_true rfl) ?_
  by_cases g : t = 250
  · subst g
    refine r_iload_n dX0_feed_0 rfl ?_
    refine r_iconst 0 dX0_feed_1 (by decide) ?_
    refine r_sipush 255 dX0_feed_2 (by decide) ?_
    refine r_callS (as := [_, _, _]) okX0_isIn q378 dX0_feed_5 (Nat.le_of_ble_eq_true rfl) rfl (Nat.le_of_ble_eq_true rfl) (Nat.le_of_ble_eq_true rfl) (Nat.le_of_ble_eq_true rfl) (pX0_isIn ?_)
    refine r_if_ne 18 dX0_feed_8 (by decide) (fun c_8 => ?_) (fun c_8 => ?_)
    · refine r_aload_n dX0_feed_18 rfl ?_
      refine r_get bX0 10 (by decide) q256 dX0_feed_19 rfl rfl ?_
      refine r_sipush 250 dX0_feed_22 (by decide) ?_
      refine r_icmp_ne 35 dX0_feed_25 (by decide) (fun c_ => absurd (rfl) c_) (fun _ => ?_)
      refine r_aload_n dX0_feed_28 rfl ?_
      refine r_bipush (-6) dX0_feed_29 (by decide) ?_
      refine r_callV (as := [_]) okX0_no bX0 rfl rfl q381 dX0_feed_31 (Nat.le_of_ble_eq_true rfl) rfl (Nat.le_of_ble_eq_true rfl) (Nat.le_of_ble_eq_true rfl) (Nat.le_of_ble_eq_true rfl) (pX0_no 6 (by decide) (by decide) ?_)
      exact r_iret dX0_feed_34 rfl (Nat.le_of_ble_eq_true rfl) (Nat.le_of_ble_eq_true rfl) (hfull (b2i_n.mp c_8) rfl)
    · refine r_aload_n dX0_feed_11 rfl ?_
      refine r_bipush (-2) dX0_feed_12 (by decide) ?_
      refine r_callV (as := [_]) okX0_no bX0 rfl rfl q381 dX0_feed_14 (Nat.le_of_ble_eq_true rfl) rfl (Nat.le_of_ble_eq_true rfl) (Nat.le_of_ble_eq_true rfl) (Nat.le_of_ble_eq_true rfl) (pX0_no 2 (by decide) (by decide) ?_)
      exact r_iret dX0_feed_17 rfl (Nat.le_of_ble_eq_true rfl) (Nat.le_of_ble_eq_true rfl) (hbad (b2i_0.mp c_8))
  · refine r_iload_n dX0_feed_0 rfl ?_
    refine r_iconst 0 dX0_feed_1 (by decide) ?_
    refine r_sipush 255 dX0_feed_2 (by decide) ?_
    refine r_callS (as := [_, _, _]) okX0_isIn q378 dX0_feed_5 (Nat.le_of_ble_eq_true rfl) rfl (Nat.le_of_ble_eq_true rfl) (Nat.le_of_ble_eq_true rfl) (Nat.le_of_ble_eq_true rfl) (pX0_isIn ?_)
    refine r_if_ne 18 dX0_feed_8 (by decide) (fun c_8 => ?_) (fun c_8 => ?_)
    · refine r_aload_n dX0_feed_18 rfl ?_
      refine r_get bX0 10 (by decide) q256 dX0_feed_19 rfl rfl ?_
      refine r_sipush 250 dX0_feed_22 (by decide) ?_
      refine r_icmp_ne 35 dX0_feed_25 (by decide) (fun _ => ?_) (fun c_ => absurd c_ (fun z => g ((nI_eq (by omega) (by omega)).mp z)))
      refine r_aload_n dX0_feed_35 rfl ?_
      refine r_get bX0 9 (by decide) q255 dX0_feed_36 rfl rfl ?_
      refine r_aload_n dX0_feed_39 rfl ?_
      refine r_get bX0 10 (by decide) q256 dX0_feed_40 rfl rfl ?_
      refine r_iload_n dX0_feed_43 rfl ?_
      refine r_iastN dX0_feed_44 rfl (by omega) (Nat.le_of_ble_eq_true rfl) ?_
      refine r_aload_n dX0_feed_45 rfl ?_
      refine r_dup dX0_feed_46 rfl ?_
      refine r_get bX0 10 (by decide) q256 dX0_feed_47 rfl rfl ?_
      refine r_iconst 1 dX0_feed_50 (by decide) ?_
      refine r_iadd dX0_feed_51 ?_
      rw [nI_1]
      refine r_put bX0 10 (by decide) rfl q256 dX0_feed_52 rfl rfl rfl (Nat.le_of_ble_eq_true rfl) ?_
      refine r_aload_n dX0_feed_55 rfl ?_
      refine r_get bX0 10 (by decide) q256 dX0_feed_56 rfl rfl ?_
      exact r_iret dX0_feed_59 rfl (Nat.le_of_ble_eq_true rfl) (Nat.le_of_ble_eq_true rfl) (hok (b2i_n.mp c_8) (by omega))
    · refine r_aload_n dX0_feed_11 rfl ?_
      refine r_bipush (-2) dX0_feed_12 (by decide) ?_
      refine r_callV (as := [_]) okX0_no bX0 rfl rfl q381 dX0_feed_14 (Nat.le_of_ble_eq_true rfl) rfl (Nat.le_of_ble_eq_true rfl) (Nat.le_of_ble_eq_true rfl) (Nat.le_of_ble_eq_true rfl) (pX0_no 2 (by decide) (by decide) ?_)
      exact r_iret dX0_feed_17 rfl (Nat.le_of_ble_eq_true rfl) (Nat.le_of_ble_eq_true rfl) (hbad (b2i_0.mp c_8))
theorem pX0_sortAt {p : Int32} (hbad : inB p 0 11 = false → Q (some (.int (-2))) (r0, (xC (.ref 2) iv tP tL tA tK tC tS tH tN tE tZ tf mP mf eP eT eF ef eg ew rx gx wx hv tp td (upd rf 2 (rf 2 + 1)) rc ic), (wC th pf nl ag lk co sh hs my ev se lc), r3)) (hok : ∀ j, j < 12 → p = nI j → Q (some (.int (th j))) (r0, (xC (.ref 2) iv tP tL tA tK tC tS tH tN tE tZ tf mP mf eP eT eF ef eg ew rx gx wx hv tp td rf rc ic), (wC th pf nl ag lk co sh hs my ev se lc), r3)) : AMet mX0_sortAt 3 0 0 [.ref 1, .int p] (r0, (xC (.ref 2) iv tP tL tA tK tC tS tH tN tE tZ tf mP mf eP eT eF ef eg ew rx gx wx hv tp td rf rc ic), (wC th pf nl ag lk co sh hs my ev se lc), r3) Q := by
  refine AMet.ofRch rfl rfl (Nat.le_of_ble_eq_true rfl) ?_
  refine r_iload_n dX0_sortAt_0 rfl ?_
  refine r_callS (as := [_]) okX0_isPlace q651 dX0_sortAt_1 (Nat.le_of_ble_eq_true rfl) rfl (Nat.le_of_ble_eq_true rfl) (Nat.le_of_ble_eq_true rfl) (Nat.le_of_ble_eq_true rfl) (pX0_isPlace ?_)
  refine r_if_eq 22 dX0_sortAt_4 (by decide) (fun c_4 => ?_) (fun c_4 => ?_)
  · refine r_aload_n dX0_sortAt_22 rfl ?_
    refine r_bipush (-2) dX0_sortAt_23 (by decide) ?_
    refine r_callV (as := [_]) okX0_no bX0 rfl rfl q381 dX0_sortAt_25 (Nat.le_of_ble_eq_true rfl) rfl (Nat.le_of_ble_eq_true rfl) (Nat.le_of_ble_eq_true rfl) (Nat.le_of_ble_eq_true rfl) (pX0_no 2 (by decide) (by decide) ?_)
    exact r_iret dX0_sortAt_28 rfl (Nat.le_of_ble_eq_true rfl) (Nat.le_of_ble_eq_true rfl) (hbad (b2i_0.mp c_4))
  · obtain ⟨j, hj, rfl⟩ := inB_ex 11 (by decide) (b2i_n.mp c_4)
    refine r_aload_n dX0_sortAt_7 rfl ?_
    refine r_get bX0 0 (by decide) q246 dX0_sortAt_8 rfl rfl ?_
    refine r_get bX1 0 (by decide) q160 dX0_sortAt_11 rfl rfl ?_
    refine r_get bX2 0 (by decide) q146 dX0_sortAt_14 rfl rfl ?_
    refine r_iload_n dX0_sortAt_17 rfl ?_
    refine r_ialdN dX0_sortAt_18 rfl (by omega) (Nat.le_of_ble_eq_true rfl) ?_
    refine r_goto 28 dX0_sortAt_19 (by decide) ?_
    exact r_iret dX0_sortAt_28 rfl (Nat.le_of_ble_eq_true rfl) (Nat.le_of_ble_eq_true rfl) (hok j (by omega) rfl)
theorem in_m17 {s : Int32} (h : s = -1 ∨ inB s 0 7 = true) : inB s (-1) 7 = true := by
  rcases h with rfl | h
  · decide
  · simp only [inB, Bool.and_eq_true, decide_eq_true_eq] at h ⊢
    exact ⟨Int32.le_trans (by decide) h.1, h.2⟩
theorem in_m17' {s : Int32} (h1 : ¬ s = -1) (h : inB s 0 7 = false) : inB s (-1) 7 = false := by
  cases g : inB s (-1) 7 with
  | false => rfl
  | true =>
    exfalso
    simp only [inB, Bool.and_eq_true, decide_eq_true_eq] at g
    simp only [inB, Bool.and_eq_false_iff, decide_eq_false_iff_not] at h
    rcases h with h | h
    · refine h1 (Int32.le_antisymm ?_ g.1)
      have h2 := Int32.not_le.mp h
      rw [Int32.lt_iff_toInt_lt] at h2
      rw [Int32.le_iff_toInt_le]
      have e1 : (0 : Int32).toInt = 0 := by decide
      have e2 : (-1 : Int32).toInt = -1 := by decide
      omega
    · exact h g.2
theorem pX0_place {p s : Int32} (hbad : (inB p 0 11 && inB s (-1) 7) = false → Q (some (.int (-2))) (r0, (xC (.ref 2) iv tP tL tA tK tC tS tH tN tE tZ tf mP mf eP eT eF ef eg ew rx gx wx hv tp td (upd rf 2 (rf 2 + 1)) rc ic), (wC th pf nl ag lk co sh hs my ev se lc), r3)) (hok : ∀ j, j < 12 → p = nI j → inB s (-1) 7 = true → Q (some (.int (th j))) (r0, (xC (.ref 2) iv tP tL tA tK tC tS tH tN tE tZ tf mP mf eP eT eF ef eg ew rx gx wx hv tp td rf rc ic), (wC (upd th j s) pf nl ag lk co sh hs my ev se lc), r3)) : AMet mX0_place 3 0 0 [.ref 1, .int p, .int s] (r0, (xC (.ref 2) iv tP tL tA tK tC tS tH tN tE tZ tf mP mf eP eT eF ef eg ew rx gx wx hv tp td rf rc ic), (wC th pf nl ag lk co sh hs my ev se lc), r3) Q := by
  refine AMet.ofRch rfl rfl (Nat.le_of_ble_eq_true rfl) ?_
  refine r_iload_n dX0_place_0 rfl ?_
  refine r_callS (as := [_]) okX0_isPlace q651 dX0_place_1 (Nat.le_of_ble_eq_true rfl) rfl (Nat.le_of_ble_eq_true rfl) (Nat.le_of_ble_eq_true rfl) (Nat.le_of_ble_eq_true rfl) (pX0_isPlace ?_)
  refine r_if_eq 19 dX0_place_4 (by decide) (fun c_4 => ?_) (fun c_4 => ?_)
  · refine r_aload_n dX0_place_19 rfl ?_
    refine r_bipush (-2) dX0_place_20 (by decide) ?_
    refine r_callV (as := [_]) okX0_no bX0 rfl rfl q381 dX0_place_22 (Nat.le_of_ble_eq_true rfl) rfl (Nat.le_of_ble_eq_true rfl) (Nat.le_of_ble_eq_true rfl) (Nat.le_of_ble_eq_true rfl) (pX0_no 2 (by decide) (by decide) ?_)
    exact r_iret dX0_place_25 rfl (Nat.le_of_ble_eq_true rfl) (Nat.le_of_ble_eq_true rfl) (hbad (by first | (rw [b2i_0.mp c_4]; rfl) | (rw [in_m17' c_9 (b2i_0.mp c_16), Bool.and_false])))
  · refine r_iload_n dX0_place_7 rfl ?_
    refine r_iconst (-1) dX0_place_8 (by decide) ?_
    refine r_icmp_eq 26 dX0_place_9 (by decide) (fun c_9 => ?_) (fun c_9 => ?_)
    · obtain ⟨j, hj, rfl⟩ := inB_ex 11 (by decide) (b2i_n.mp c_4)
      have g : inB s (-1) 7 = true := by first | exact in_m17 (Or.inl c_9) | exact in_m17 (Or.inr (b2i_n.mp c_16))
      refine r_aload_n dX0_place_26 rfl ?_
      refine r_get bX0 0 (by decide) q246 dX0_place_27 rfl rfl ?_
      refine r_get bX1 0 (by decide) q160 dX0_place_30 rfl rfl ?_
      refine r_get bX2 0 (by decide) q146 dX0_place_33 rfl rfl ?_
      refine r_iload_n dX0_place_36 rfl ?_
      refine r_ialdN dX0_place_37 rfl (by omega) (Nat.le_of_ble_eq_true rfl) ?_
      refine r_istore_n dX0_place_38 (Nat.le_of_ble_eq_true rfl) ?_
      refine r_aload_n dX0_place_39 rfl ?_
      refine r_get bX0 0 (by decide) q246 dX0_place_40 rfl rfl ?_
      refine r_get bX1 0 (by decide) q160 dX0_place_43 rfl rfl ?_
      refine r_get bX2 0 (by decide) q146 dX0_place_46 rfl rfl ?_
      refine r_iload_n dX0_place_49 rfl ?_
      refine r_iload_n dX0_place_50 rfl ?_
      refine r_iastN dX0_place_51 rfl (by omega) (Nat.le_of_ble_eq_true rfl) ?_
      refine r_iload_n dX0_place_52 rfl ?_
      exact r_iret dX0_place_53 rfl (Nat.le_of_ble_eq_true rfl) (Nat.le_of_ble_eq_true rfl) (hok j (by omega) rfl g)
    · refine r_iload_n dX0_place_12 rfl ?_
      refine r_callS (as := [_]) okX0_isSort q654 dX0_place_13 (Nat.le_of_ble_eq_true rfl) rfl (Nat.le_of_ble_eq_true rfl) (Nat.le_of_ble_eq_true rfl) (Nat.le_of_ble_eq_true rfl) (pX0_isSort ?_)
      refine r_if_ne 26 dX0_place_16 (by decide) (fun c_16 => ?_) (fun c_16 => ?_)
      · obtain ⟨j, hj, rfl⟩ := inB_ex 11 (by decide) (b2i_n.mp c_4)
        have g : inB s (-1) 7 = true := by first | exact in_m17 (Or.inl c_9) | exact in_m17 (Or.inr (b2i_n.mp c_16))
        refine r_aload_n dX0_place_26 rfl ?_
        refine r_get bX0 0 (by decide) q246 dX0_place_27 rfl rfl ?_
        refine r_get bX1 0 (by decide) q160 dX0_place_30 rfl rfl ?_
        refine r_get bX2 0 (by decide) q146 dX0_place_33 rfl rfl ?_
        refine r_iload_n dX0_place_36 rfl ?_
        refine r_ialdN dX0_place_37 rfl (by omega) (Nat.le_of_ble_eq_true rfl) ?_
        refine r_istore_n dX0_place_38 (Nat.le_of_ble_eq_true rfl) ?_
        refine r_aload_n dX0_place_39 rfl ?_
        refine r_get bX0 0 (by decide) q246 dX0_place_40 rfl rfl ?_
        refine r_get bX1 0 (by decide) q160 dX0_place_43 rfl rfl ?_
        refine r_get bX2 0 (by decide) q146 dX0_place_46 rfl rfl ?_
        refine r_iload_n dX0_place_49 rfl ?_
        refine r_iload_n dX0_place_50 rfl ?_
        refine r_iastN dX0_place_51 rfl (by omega) (Nat.le_of_ble_eq_true rfl) ?_
        refine r_iload_n dX0_place_52 rfl ?_
        exact r_iret dX0_place_53 rfl (Nat.le_of_ble_eq_true rfl) (Nat.le_of_ble_eq_true rfl) (hok j (by omega) rfl g)
      · refine r_aload_n dX0_place_19 rfl ?_
        refine r_bipush (-2) dX0_place_20 (by decide) ?_
        refine r_callV (as := [_]) okX0_no bX0 rfl rfl q381 dX0_place_22 (Nat.le_of_ble_eq_true rfl) rfl (Nat.le_of_ble_eq_true rfl) (Nat.le_of_ble_eq_true rfl) (Nat.le_of_ble_eq_true rfl) (pX0_no 2 (by decide) (by decide) ?_)
        exact r_iret dX0_place_25 rfl (Nat.le_of_ble_eq_true rfl) (Nat.le_of_ble_eq_true rfl) (hbad (by first | (rw [b2i_0.mp c_4]; rfl) | (rw [in_m17' c_9 (b2i_0.mp c_16), Bool.and_false])))
theorem pX0_likes {l s b : Int32} (hn : n ≤ 8) (hbad : (inB l 0 (nI n - 1) && inB s 0 7) = false → Q (some (.int (-2))) (r0, (xC (.ref 2) iv tP tL tA tK tC tS tH tN tE tZ tf mP mf eP eT eF ef eg ew rx gx wx hv tp td (upd rf 2 (rf 2 + 1)) rc ic), (wC th pf nl ag lk co sh hs (nI n) ev se lc), r3)) (hok : ∀ j, j < n → l = nI j → inB s 0 7 = true → Q (some (.int (b2i (hasB (lk j) s)))) (r0, (xC (.ref 2) iv tP tL tA tK tC tS tH tN tE tZ tf mP mf eP eT eF ef eg ew rx gx wx hv tp td rf rc ic), (wC th pf nl ag (upd lk j (if b = 0 then lk j &&& ((1 <<< (s &&& 31)) ^^^ (-1)) else lk j ||| (1 <<< (s &&& 31)))) co sh hs (nI n) ev se lc), r3)) : AMet mX0_likes 3 0 0 [.ref 1, .int l, .int s, .int b] (r0, (xC (.ref 2) iv tP tL tA tK tC tS tH tN tE tZ tf mP mf eP eT eF ef eg ew rx gx wx hv tp td rf rc ic), (wC th pf nl ag lk co sh hs (nI n) ev se lc), r3) Q := by
  refine AMet.ofRch rfl rfl (Nat.le_of_ble_eq_true rfl) ?_
  refine r_aload_n dX0_likes_0 rfl ?_
  refine r_get bX0 0 (by decide) q246 dX0_likes_1 rfl rfl ?_
  refine r_iload_n dX0_likes_4 rfl ?_
  refine r_callV (as := [_]) okX1_isLooker bX1 rfl rfl q519 dX0_likes_5 (Nat.le_of_ble_eq_true rfl) rfl (Nat.le_of_ble_eq_true rfl) (Nat.le_of_ble_eq_true rfl) (Nat.le_of_ble_eq_true rfl) (pX1_isLooker rfl ?_)
  refine r_if_eq 18 dX0_likes_8 (by decide) (fun c_8 => ?_) (fun c_8 => ?_)
  · refine r_aload_n dX0_likes_18 rfl ?_
    refine r_bipush (-2) dX0_likes_19 (by decide) ?_
    refine r_callV (as := [_]) okX0_no bX0 rfl rfl q381 dX0_likes_21 (Nat.le_of_ble_eq_true rfl) rfl (Nat.le_of_ble_eq_true rfl) (Nat.le_of_ble_eq_true rfl) (Nat.le_of_ble_eq_true rfl) (pX0_no 2 (by decide) (by decide) ?_)
    exact r_iret dX0_likes_24 rfl (Nat.le_of_ble_eq_true rfl) (Nat.le_of_ble_eq_true rfl) (hbad (by simp_all [b2i_0]))
  · refine r_iload_n dX0_likes_11 rfl ?_
    refine r_callS (as := [_]) okX0_isSort q654 dX0_likes_12 (Nat.le_of_ble_eq_true rfl) rfl (Nat.le_of_ble_eq_true rfl) (Nat.le_of_ble_eq_true rfl) (Nat.le_of_ble_eq_true rfl) (pX0_isSort ?_)
    refine r_if_ne 25 dX0_likes_15 (by decide) (fun c_15 => ?_) (fun c_15 => ?_)
    · obtain ⟨j, hj, rfl⟩ := inB_m (b2i_n.mp c_8) (by omega)
      have hq := hok j hj rfl (b2i_n.mp c_15)
      by_cases g : b = 0
      · rw [if_pos g] at hq
        refine r_aload_n dX0_likes_25 rfl ?_
        refine r_get bX0 0 (by decide) q246 dX0_likes_26 rfl rfl ?_
        refine r_get bX1 3 (by decide) q168 dX0_likes_29 rfl rfl ?_
        refine r_iload_n dX0_likes_32 rfl ?_
        refine r_ialdN dX0_likes_33 rfl (by omega) (Nat.le_of_ble_eq_true rfl) ?_
        refine r_iload_n dX0_likes_34 rfl ?_
        refine r_callS (as := [_, _]) okX0_has q974 dX0_likes_35 (Nat.le_of_ble_eq_true rfl) rfl (Nat.le_of_ble_eq_true rfl) (Nat.le_of_ble_eq_true rfl) (Nat.le_of_ble_eq_true rfl) (pX0_has ?_)
        refine r_if_eq 45 dX0_likes_38 (by decide) (fun c_38 => ?_) (fun c_38 => ?_)
        · refine r_iconst 0 dX0_likes_45 (by decide) ?_
          refine r_istore dX0_likes_46 (Nat.le_of_ble_eq_true rfl) ?_
          refine r_aload_n dX0_likes_48 rfl ?_
          refine r_get bX0 0 (by decide) q246 dX0_likes_49 rfl rfl ?_
          refine r_get bX1 3 (by decide) q168 dX0_likes_52 rfl rfl ?_
          refine r_iload_n dX0_likes_55 rfl ?_
          refine r_iload_n dX0_likes_56 rfl ?_
          refine r_if_eq 76 dX0_likes_57 (by decide) (fun _ => ?_) (fun c_ => absurd (g) c_)
          refine r_aload_n dX0_likes_76 rfl ?_
          refine r_get bX0 0 (by decide) q246 dX0_likes_77 rfl rfl ?_
          refine r_get bX1 3 (by decide) q168 dX0_likes_80 rfl rfl ?_
          refine r_iload_n dX0_likes_83 rfl ?_
          refine r_ialdN dX0_likes_84 rfl (by omega) (Nat.le_of_ble_eq_true rfl) ?_
          refine r_iconst 1 dX0_likes_85 (by decide) ?_
          refine r_iload_n dX0_likes_86 rfl ?_
          refine r_ishl dX0_likes_87 ?_
          refine r_iconst (-1) dX0_likes_88 (by decide) ?_
          refine r_ixor dX0_likes_89 ?_
          refine r_iand dX0_likes_90 ?_
          refine r_iastN dX0_likes_91 rfl (by omega) (Nat.le_of_ble_eq_true rfl) ?_
          refine r_iload dX0_likes_92 rfl ?_
          exact r_iret dX0_likes_94 rfl (Nat.le_of_ble_eq_true rfl) (Nat.le_of_ble_eq_true rfl) (by first | (have q1 := b2i_0.mp c_38; rw [q1] at hq; exact hq) | (have q1 := b2i_n.mp c_38; rw [q1] at hq; exact hq))
        · refine r_iconst 1 dX0_likes_41 (by decide) ?_
          refine r_goto 46 dX0_likes_42 (by decide) ?_
          refine r_istore dX0_likes_46 (Nat.le_of_ble_eq_true rfl) ?_
          refine r_aload_n dX0_likes_48 rfl ?_
          refine r_get bX0 0 (by decide) q246 dX0_likes_49 rfl rfl ?_
          refine r_get bX1 3 (by decide) q168 dX0_likes_52 rfl rfl ?_
          refine r_iload_n dX0_likes_55 rfl ?_
          refine r_iload_n dX0_likes_56 rfl ?_
          refine r_if_eq 76 dX0_likes_57 (by decide) (fun _ => ?_) (fun c_ => absurd (g) c_)
          refine r_aload_n dX0_likes_76 rfl ?_
          refine r_get bX0 0 (by decide) q246 dX0_likes_77 rfl rfl ?_
          refine r_get bX1 3 (by decide) q168 dX0_likes_80 rfl rfl ?_
          refine r_iload_n dX0_likes_83 rfl ?_
          refine r_ialdN dX0_likes_84 rfl (by omega) (Nat.le_of_ble_eq_true rfl) ?_
          refine r_iconst 1 dX0_likes_85 (by decide) ?_
          refine r_iload_n dX0_likes_86 rfl ?_
          refine r_ishl dX0_likes_87 ?_
          refine r_iconst (-1) dX0_likes_88 (by decide) ?_
          refine r_ixor dX0_likes_89 ?_
          refine r_iand dX0_likes_90 ?_
          refine r_iastN dX0_likes_91 rfl (by omega) (Nat.le_of_ble_eq_true rfl) ?_
          refine r_iload dX0_likes_92 rfl ?_
          exact r_iret dX0_likes_94 rfl (Nat.le_of_ble_eq_true rfl) (Nat.le_of_ble_eq_true rfl) (by first | (have q1 := b2i_0.mp c_38; rw [q1] at hq; exact hq) | (have q1 := b2i_n.mp c_38; rw [q1] at hq; exact hq))
      · rw [if_neg g] at hq
        refine r_aload_n dX0_likes_25 rfl ?_
        refine r_get bX0 0 (by decide) q246 dX0_likes_26 rfl rfl ?_
        refine r_get bX1 3 (by decide) q168 dX0_likes_29 rfl rfl ?_
        refine r_iload_n dX0_likes_32 rfl ?_
        refine r_ialdN dX0_likes_33 rfl (by omega) (Nat.le_of_ble_eq_true rfl) ?_
        refine r_iload_n dX0_likes_34 rfl ?_
        refine r_callS (as := [_, _]) okX0_has q974 dX0_likes_35 (Nat.le_of_ble_eq_true rfl) rfl (Nat.le_of_ble_eq_true rfl) (Nat.le_of_ble_eq_true rfl) (Nat.le_of_ble_eq_true rfl) (pX0_has ?_)
        refine r_if_eq 45 dX0_likes_38 (by decide) (fun c_38 => ?_) (fun c_38 => ?_)
        · refine r_iconst 0 dX0_likes_45 (by decide) ?_
          refine r_istore dX0_likes_46 (Nat.le_of_ble_eq_true rfl) ?_
          refine r_aload_n dX0_likes_48 rfl ?_
          refine r_get bX0 0 (by decide) q246 dX0_likes_49 rfl rfl ?_
          refine r_get bX1 3 (by decide) q168 dX0_likes_52 rfl rfl ?_
          refine r_iload_n dX0_likes_55 rfl ?_
          refine r_iload_n dX0_likes_56 rfl ?_
          refine r_if_eq 76 dX0_likes_57 (by decide) (fun c_ => absurd c_ (g)) (fun _ => ?_)
          refine r_aload_n dX0_likes_60 rfl ?_
          refine r_get bX0 0 (by decide) q246 dX0_likes_61 rfl rfl ?_
          refine r_get bX1 3 (by decide) q168 dX0_likes_64 rfl rfl ?_
          refine r_iload_n dX0_likes_67 rfl ?_
          refine r_ialdN dX0_likes_68 rfl (by omega) (Nat.le_of_ble_eq_true rfl) ?_
          refine r_iconst 1 dX0_likes_69 (by decide) ?_
          refine r_iload_n dX0_likes_70 rfl ?_
          refine r_ishl dX0_likes_71 ?_
          refine r_ior dX0_likes_72 ?_
          refine r_goto 91 dX0_likes_73 (by decide) ?_
          refine r_iastN dX0_likes_91 rfl (by omega) (Nat.le_of_ble_eq_true rfl) ?_
          refine r_iload dX0_likes_92 rfl ?_
          exact r_iret dX0_likes_94 rfl (Nat.le_of_ble_eq_true rfl) (Nat.le_of_ble_eq_true rfl) (by first | (have q1 := b2i_0.mp c_38; rw [q1] at hq; exact hq) | (have q1 := b2i_n.mp c_38; rw [q1] at hq; exact hq))
        · refine r_iconst 1 dX0_likes_41 (by decide) ?_
          refine r_goto 46 dX0_likes_42 (by decide) ?_
          refine r_istore dX0_likes_46 (Nat.le_of_ble_eq_true rfl) ?_
          refine r_aload_n dX0_likes_48 rfl ?_
          refine r_get bX0 0 (by decide) q246 dX0_likes_49 rfl rfl ?_
          refine r_get bX1 3 (by decide) q168 dX0_likes_52 rfl rfl ?_
          refine r_iload_n dX0_likes_55 rfl ?_
          refine r_iload_n dX0_likes_56 rfl ?_
          refine r_if_eq 76 dX0_likes_57 (by decide) (fun c_ => absurd c_ (g)) (fun _ => ?_)
          refine r_aload_n dX0_likes_60 rfl ?_
          refine r_get bX0 0 (by decide) q246 dX0_likes_61 rfl rfl ?_
          refine r_get bX1 3 (by decide) q168 dX0_likes_64 rfl rfl ?_
          refine r_iload_n dX0_likes_67 rfl ?_
          refine r_ialdN dX0_likes_68 rfl (by omega) (Nat.le_of_ble_eq_true rfl) ?_
          refine r_iconst 1 dX0_likes_69 (by decide) ?_
          refine r_iload_n dX0_likes_70 rfl ?_
          refine r_ishl dX0_likes_71 ?_
          refine r_ior dX0_likes_72 ?_
          refine r_goto 91 dX0_likes_73 (by decide) ?_
          refine r_iastN dX0_likes_91 rfl (by omega) (Nat.le_of_ble_eq_true rfl) ?_
          refine r_iload dX0_likes_92 rfl ?_
          exact r_iret dX0_likes_94 rfl (Nat.le_of_ble_eq_true rfl) (Nat.le_of_ble_eq_true rfl) (by first | (have q1 := b2i_0.mp c_38; rw [q1] at hq; exact hq) | (have q1 := b2i_n.mp c_38; rw [q1] at hq; exact hq))
    · refine r_aload_n dX0_likes_18 rfl ?_
      refine r_bipush (-2) dX0_likes_19 (by decide) ?_
      refine r_callV (as := [_]) okX0_no bX0 rfl rfl q381 dX0_likes_21 (Nat.le_of_ble_eq_true rfl) rfl (Nat.le_of_ble_eq_true rfl) (Nat.le_of_ble_eq_true rfl) (Nat.le_of_ble_eq_true rfl) (pX0_no 2 (by decide) (by decide) ?_)
      exact r_iret dX0_likes_24 rfl (Nat.le_of_ble_eq_true rfl) (Nat.le_of_ble_eq_true rfl) (hbad (by simp_all [b2i_0]))
theorem pX0_tell {l w v : Int32} (hn : n ≤ 8) (hbad : (inB l 0 (nI n - 1) && tellB w v) = false → Q (some (.int (-2))) (r0, (xC (.ref 2) iv tP tL tA tK tC tS tH tN tE tZ tf mP mf eP eT eF ef eg ew rx gx wx hv tp td (upd rf 2 (rf 2 + 1)) rc ic), (wC th pf nl ag lk co sh hs (nI n) ev se lc), r3)) (h0 : ∀ j, j < n → l = nI j → w = 0 → inB v 0 12 = true → Q (some (.int (co j))) (r0, (xC (.ref 2) iv tP tL tA tK tC tS tH tN tE tZ tf mP mf eP eT eF ef eg ew rx gx wx hv tp td rf rc ic), (wC th pf nl ag lk (upd co j v) sh hs (nI n) ev se lc), r3)) (h1 : ∀ j, j < n → l = nI j → w = 1 → inB v 0 99 = true → Q (some (.int (ag j))) (r0, (xC (.ref 2) iv tP tL tA tK tC tS tH tN tE tZ tf mP mf eP eT eF ef eg ew rx gx wx hv tp td rf rc ic), (wC th pf nl (upd ag j v) lk co sh hs (nI n) ev se lc), r3)) (h2 : ∀ j, j < n → l = nI j → w = 2 → inB v (-1) 7 = true → Q (some (.int (sh j))) (r0, (xC (.ref 2) iv tP tL tA tK tC tS tH tN tE tZ tf mP mf eP eT eF ef eg ew rx gx wx hv tp td rf rc ic), (wC th pf nl ag lk co (upd sh j v) hs (nI n) ev se lc), r3)) : AMet mX0_tell 3 0 0 [.ref 1, .int l, .int w, .int v] (r0, (xC (.ref 2) iv tP tL tA tK tC tS tH tN tE tZ tf mP mf eP eT eF ef eg ew rx gx wx hv tp td rf rc ic), (wC th pf nl ag lk co sh hs (nI n) ev se lc), r3) Q := by
  refine AMet.ofRch rfl rfl (Nat.le_of_ble_eq_true rfl) ?_
  have key : ∀ b : Bool, tellB w v = b → Rch (mX0_tell, 3, 0, 0, oQ Q) 0 0 53 [some (.ref 1), some (.int l), some (.int w), some (.int v), some (.int (b2i b)), none, none] [] (r0, (xC (.ref 2) iv tP tL tA tK tC tS tH tN tE tZ tf mP mf eP eT eF ef eg ew rx gx wx hv tp td rf rc ic), (wC th pf nl ag lk co sh hs (nI n) ev se lc), r3) := by
    intro b hb
    cases b with
    | false => 
      refine r_aload_n dX0_tell_53 rfl ?_
      refine r_get bX0 0 (by decide) q246 dX0_tell_54 rfl rfl ?_
      refine r_iload_n dX0_tell_57 rfl ?_
      refine r_callV (as := [_]) okX1_isLooker bX1 rfl rfl q519 dX0_tell_58 (Nat.le_of_ble_eq_true rfl) rfl (Nat.le_of_ble_eq_true rfl) (Nat.le_of_ble_eq_true rfl) (Nat.le_of_ble_eq_true rfl) (pX1_isLooker rfl ?_)
      refine r_if_eq 69 dX0_tell_61 (by decide) (fun c_61 => ?_) (fun c_61 => ?_)
      · refine r_aload_n dX0_tell_69 rfl ?_
        refine r_bipush (-2) dX0_tell_70 (by decide) ?_
        refine r_callV (as := [_]) okX0_no bX0 rfl rfl q381 dX0_tell_72 (Nat.le_of_ble_eq_true rfl) rfl (Nat.le_of_ble_eq_true rfl) (Nat.le_of_ble_eq_true rfl) (Nat.le_of_ble_eq_true rfl) (pX0_no 2 (by decide) (by decide) ?_)
        exact r_iret dX0_tell_75 rfl (Nat.le_of_ble_eq_true rfl) (Nat.le_of_ble_eq_true rfl) (hbad (by rw [hb, Bool.and_false]))
      · refine r_iload dX0_tell_64 rfl ?_
        refine r_if_ne 76 dX0_tell_66 (by decide) (fun c_ => absurd (rfl) c_) (fun _ => ?_)
        refine r_aload_n dX0_tell_69 rfl ?_
        refine r_bipush (-2) dX0_tell_70 (by decide) ?_
        refine r_callV (as := [_]) okX0_no bX0 rfl rfl q381 dX0_tell_72 (Nat.le_of_ble_eq_true rfl) rfl (Nat.le_of_ble_eq_true rfl) (Nat.le_of_ble_eq_true rfl) (Nat.le_of_ble_eq_true rfl) (pX0_no 2 (by decide) (by decide) ?_)
        exact r_iret dX0_tell_75 rfl (Nat.le_of_ble_eq_true rfl) (Nat.le_of_ble_eq_true rfl) (hbad (by rw [hb, Bool.and_false]))
    | true =>
      refine r_aload_n dX0_tell_53 rfl ?_
      refine r_get bX0 0 (by decide) q246 dX0_tell_54 rfl rfl ?_
      refine r_iload_n dX0_tell_57 rfl ?_
      refine r_callV (as := [_]) okX1_isLooker bX1 rfl rfl q519 dX0_tell_58 (Nat.le_of_ble_eq_true rfl) rfl (Nat.le_of_ble_eq_true rfl) (Nat.le_of_ble_eq_true rfl) (Nat.le_of_ble_eq_true rfl) (pX1_isLooker rfl ?_)
      refine r_if_eq 69 dX0_tell_61 (by decide) (fun c_61 => ?_) (fun c_61 => ?_)
      · refine r_aload_n dX0_tell_69 rfl ?_
        refine r_bipush (-2) dX0_tell_70 (by decide) ?_
        refine r_callV (as := [_]) okX0_no bX0 rfl rfl q381 dX0_tell_72 (Nat.le_of_ble_eq_true rfl) rfl (Nat.le_of_ble_eq_true rfl) (Nat.le_of_ble_eq_true rfl) (Nat.le_of_ble_eq_true rfl) (pX0_no 2 (by decide) (by decide) ?_)
        exact r_iret dX0_tell_75 rfl (Nat.le_of_ble_eq_true rfl) (Nat.le_of_ble_eq_true rfl) (hbad (by rw [b2i_0.mp c_61]; rfl))
      · refine r_iload dX0_tell_64 rfl ?_
        refine r_if_ne 76 dX0_tell_66 (by decide) (fun _ => ?_) (fun c_ => absurd c_ (by decide))
        obtain ⟨j, hj, rfl⟩ := inB_m (b2i_n.mp c_61) (by omega)
        by_cases g0 : w = 0
        · subst g0
          have g : inB v 0 12 = true := by simpa [tellB] using hb
          refine r_iload_n dX0_tell_76 rfl ?_
          refine r_if_ne 90 dX0_tell_77 (by decide) (fun c_ => absurd (rfl) c_) (fun _ => ?_)
          refine r_aload_n dX0_tell_80 rfl ?_
          refine r_get bX0 0 (by decide) q246 dX0_tell_81 rfl rfl ?_
          refine r_get bX1 4 (by decide) q171 dX0_tell_84 rfl rfl ?_
          refine r_goto 112 dX0_tell_87 (by decide) ?_
          refine r_astore dX0_tell_112 (Nat.le_of_ble_eq_true rfl) ?_
          refine r_aload dX0_tell_114 rfl ?_
          refine r_iload_n dX0_tell_116 rfl ?_
          refine r_ialdN dX0_tell_117 rfl (by omega) (Nat.le_of_ble_eq_true rfl) ?_
          refine r_istore dX0_tell_118 (Nat.le_of_ble_eq_true rfl) ?_
          refine r_aload dX0_tell_120 rfl ?_
          refine r_iload_n dX0_tell_122 rfl ?_
          refine r_iload_n dX0_tell_123 rfl ?_
          refine r_iastN dX0_tell_124 rfl (by omega) (Nat.le_of_ble_eq_true rfl) ?_
          refine r_iload dX0_tell_125 rfl ?_
          exact r_iret dX0_tell_127 rfl (Nat.le_of_ble_eq_true rfl) (Nat.le_of_ble_eq_true rfl) (h0 j hj rfl rfl g)
        · by_cases g1 : w = 1
          · subst g1
            have g : inB v 0 99 = true := by simpa [tellB] using hb
            refine r_iload_n dX0_tell_76 rfl ?_
            refine r_if_ne 90 dX0_tell_77 (by decide) (fun _ => ?_) (fun c_ => absurd c_ (g0))
            refine r_iload_n dX0_tell_90 rfl ?_
            refine r_iconst 1 dX0_tell_91 (by decide) ?_
            refine r_icmp_ne 105 dX0_tell_92 (by decide) (fun c_ => absurd (rfl) c_) (fun _ => ?_)
            refine r_aload_n dX0_tell_95 rfl ?_
            refine r_get bX0 0 (by decide) q246 dX0_tell_96 rfl rfl ?_
            refine r_get bX1 2 (by decide) q165 dX0_tell_99 rfl rfl ?_
            refine r_goto 112 dX0_tell_102 (by decide) ?_
            refine r_astore dX0_tell_112 (Nat.le_of_ble_eq_true rfl) ?_
            refine r_aload dX0_tell_114 rfl ?_
            refine r_iload_n dX0_tell_116 rfl ?_
            refine r_ialdN dX0_tell_117 rfl (by omega) (Nat.le_of_ble_eq_true rfl) ?_
            refine r_istore dX0_tell_118 (Nat.le_of_ble_eq_true rfl) ?_
            refine r_aload dX0_tell_120 rfl ?_
            refine r_iload_n dX0_tell_122 rfl ?_
            refine r_iload_n dX0_tell_123 rfl ?_
            refine r_iastN dX0_tell_124 rfl (by omega) (Nat.le_of_ble_eq_true rfl) ?_
            refine r_iload dX0_tell_125 rfl ?_
            exact r_iret dX0_tell_127 rfl (Nat.le_of_ble_eq_true rfl) (Nat.le_of_ble_eq_true rfl) (h1 j hj rfl rfl g)
          · have g : w = 2 ∧ inB v (-1) 7 = true := by simpa [tellB, g0, g1] using hb
            refine r_iload_n dX0_tell_76 rfl ?_
            refine r_if_ne 90 dX0_tell_77 (by decide) (fun _ => ?_) (fun c_ => absurd c_ (g0))
            refine r_iload_n dX0_tell_90 rfl ?_
            refine r_iconst 1 dX0_tell_91 (by decide) ?_
            refine r_icmp_ne 105 dX0_tell_92 (by decide) (fun _ => ?_) (fun c_ => absurd c_ (g1))
            refine r_aload_n dX0_tell_105 rfl ?_
            refine r_get bX0 0 (by decide) q246 dX0_tell_106 rfl rfl ?_
            refine r_get bX1 5 (by decide) q174 dX0_tell_109 rfl rfl ?_
            refine r_astore dX0_tell_112 (Nat.le_of_ble_eq_true rfl) ?_
            refine r_aload dX0_tell_114 rfl ?_
            refine r_iload_n dX0_tell_116 rfl ?_
            refine r_ialdN dX0_tell_117 rfl (by omega) (Nat.le_of_ble_eq_true rfl) ?_
            refine r_istore dX0_tell_118 (Nat.le_of_ble_eq_true rfl) ?_
            refine r_aload dX0_tell_120 rfl ?_
            refine r_iload_n dX0_tell_122 rfl ?_
            refine r_iload_n dX0_tell_123 rfl ?_
            refine r_iastN dX0_tell_124 rfl (by omega) (Nat.le_of_ble_eq_true rfl) ?_
            refine r_iload dX0_tell_125 rfl ?_
            exact r_iret dX0_tell_127 rfl (Nat.le_of_ble_eq_true rfl) (Nat.le_of_ble_eq_true rfl) (h2 j hj rfl g.1 g.2)
  by_cases g0 : w = 0
  · subst g0
    refine r_iload_n dX0_tell_0 rfl ?_
    refine r_if_ne 14 dX0_tell_1 (by decide) (fun c_ => absurd (rfl) c_) (fun _ => ?_)
    refine r_iload_n dX0_tell_4 rfl ?_
    refine r_iconst 0 dX0_tell_5 (by decide) ?_
    refine r_bipush 12 dX0_tell_6 (by decide) ?_
    refine r_callS (as := [_, _, _]) okX0_isIn q378 dX0_tell_8 (Nat.le_of_ble_eq_true rfl) rfl (Nat.le_of_ble_eq_true rfl) (Nat.le_of_ble_eq_true rfl) (Nat.le_of_ble_eq_true rfl) (pX0_isIn ?_)
    refine r_goto 51 dX0_tell_11 (by decide) ?_
    refine r_istore dX0_tell_51 (Nat.le_of_ble_eq_true rfl) ?_
    exact key _ (by simp [tellB])
  · by_cases g1 : w = 1
    · subst g1
      refine r_iload_n dX0_tell_0 rfl ?_
      refine r_if_ne 14 dX0_tell_1 (by decide) (fun _ => ?_) (fun c_ => absurd c_ (g0))
      refine r_iload_n dX0_tell_14 rfl ?_
      refine r_iconst 1 dX0_tell_15 (by decide) ?_
      refine r_icmp_ne 29 dX0_tell_16 (by decide) (fun c_ => absurd (rfl) c_) (fun _ => ?_)
      refine r_iload_n dX0_tell_19 rfl ?_
      refine r_iconst 0 dX0_tell_20 (by decide) ?_
      refine r_bipush 99 dX0_tell_21 (by decide) ?_
      refine r_callS (as := [_, _, _]) okX0_isIn q378 dX0_tell_23 (Nat.le_of_ble_eq_true rfl) rfl (Nat.le_of_ble_eq_true rfl) (Nat.le_of_ble_eq_true rfl) (Nat.le_of_ble_eq_true rfl) (pX0_isIn ?_)
      refine r_goto 51 dX0_tell_26 (by decide) ?_
      refine r_istore dX0_tell_51 (Nat.le_of_ble_eq_true rfl) ?_
      exact key _ (by simp [tellB])
    · by_cases g2 : w = 2
      · subst g2
        refine r_iload_n dX0_tell_0 rfl ?_
        refine r_if_ne 14 dX0_tell_1 (by decide) (fun _ => ?_) (fun c_ => absurd c_ (g0))
        refine r_iload_n dX0_tell_14 rfl ?_
        refine r_iconst 1 dX0_tell_15 (by decide) ?_
        refine r_icmp_ne 29 dX0_tell_16 (by decide) (fun _ => ?_) (fun c_ => absurd c_ (g1))
        refine r_iload_n dX0_tell_29 rfl ?_
        refine r_iconst 2 dX0_tell_30 (by decide) ?_
        refine r_icmp_ne 50 dX0_tell_31 (by decide) (fun c_ => absurd (rfl) c_) (fun _ => ?_)
        refine r_iload_n dX0_tell_34 rfl ?_
        refine r_iconst (-1) dX0_tell_35 (by decide) ?_
        refine r_icmp_eq 46 dX0_tell_36 (by decide) (fun c_36 => ?_) (fun c_36 => ?_)
        · refine r_iconst 1 dX0_tell_46 (by decide) ?_
          refine r_goto 51 dX0_tell_47 (by decide) ?_
          refine r_istore dX0_tell_51 (Nat.le_of_ble_eq_true rfl) ?_
          first | (have q1 : v = -1 := c_36; exact key true (by simp [tellB, in_m17 (Or.inl q1)])) | (have q1 := b2i_0.mp c_43; exact key false (by simp [tellB, in_m17' c_36 q1])) | (have q1 := b2i_n.mp c_43; exact key true (by simp [tellB, in_m17 (Or.inr q1)]))
        · refine r_iload_n dX0_tell_39 rfl ?_
          refine r_callS (as := [_]) okX0_isSort q654 dX0_tell_40 (Nat.le_of_ble_eq_true rfl) rfl (Nat.le_of_ble_eq_true rfl) (Nat.le_of_ble_eq_true rfl) (Nat.le_of_ble_eq_true rfl) (pX0_isSort ?_)
          refine r_if_eq 50 dX0_tell_43 (by decide) (fun c_43 => ?_) (fun c_43 => ?_)
          · refine r_iconst 0 dX0_tell_50 (by decide) ?_
            refine r_istore dX0_tell_51 (Nat.le_of_ble_eq_true rfl) ?_
            first | (have q1 : v = -1 := c_36; exact key true (by simp [tellB, in_m17 (Or.inl q1)])) | (have q1 := b2i_0.mp c_43; exact key false (by simp [tellB, in_m17' c_36 q1])) | (have q1 := b2i_n.mp c_43; exact key true (by simp [tellB, in_m17 (Or.inr q1)]))
          · refine r_iconst 1 dX0_tell_46 (by decide) ?_
            refine r_goto 51 dX0_tell_47 (by decide) ?_
            refine r_istore dX0_tell_51 (Nat.le_of_ble_eq_true rfl) ?_
            first | (have q1 : v = -1 := c_36; exact key true (by simp [tellB, in_m17 (Or.inl q1)])) | (have q1 := b2i_0.mp c_43; exact key false (by simp [tellB, in_m17' c_36 q1])) | (have q1 := b2i_n.mp c_43; exact key true (by simp [tellB, in_m17 (Or.inr q1)]))
      · refine r_iload_n dX0_tell_0 rfl ?_
        refine r_if_ne 14 dX0_tell_1 (by decide) (fun _ => ?_) (fun c_ => absurd c_ (g0))
        refine r_iload_n dX0_tell_14 rfl ?_
        refine r_iconst 1 dX0_tell_15 (by decide) ?_
        refine r_icmp_ne 29 dX0_tell_16 (by decide) (fun _ => ?_) (fun c_ => absurd c_ (g1))
        refine r_iload_n dX0_tell_29 rfl ?_
        refine r_iconst 2 dX0_tell_30 (by decide) ?_
        refine r_icmp_ne 50 dX0_tell_31 (by decide) (fun _ => ?_) (fun c_ => absurd c_ (g2))
        refine r_iconst 0 dX0_tell_50 (by decide) ?_
        refine r_istore dX0_tell_51 (Nat.le_of_ble_eq_true rfl) ?_
        exact key false (by simp [tellB, g0, g1, g2])
end XX
