set_option maxRecDepth 100000
/-! the component: swap, what must be set out -/
/-- who has none gets none -/
def SwN (sh : Nat → Int32) (n : Nat) (S : SW) : Prop := ∀ l, l < n → sh l = -1 → S.1 l ≠ 0 ∧ S.2 l = -1
theorem sw0_N {sh ou ge : Nat → Int32} {n : Nat} : SwN sh n (sw0 sh ou ge n) := by
  intro l hl h
  constructor
  · show fillF (oF sh) ou n l ≠ 0
    rw [fill_in hl]
    simp [oF, h]
  · show fillF (fun _ => -1) ge n l = -1
    rw [fill_in hl]
theorem swR_N {sh ow lk : Nat → Int32} {n : Nat} {S : SW} (h : SwN sh n S) : SwN sh n (swR sh ow lk n S) := by
  intro l hl e
  obtain ⟨h1, h2⟩ := h l hl e
  have g : ¬ rgB sh S.1 ow lk n l = true := by simp [rgB, h1]
  constructor
  · show geR (rgB sh S.1 ow lk n) (fun _ => 1) S.1 n l ≠ 0
    simp only [geR]
    rw [if_neg (fun z => g z.2)]
    exact h1
  · show geR (rgB sh S.1 ow lk n) (fun l => sh (wiN sh S.1 ow lk n l)) S.2 n l = -1
    simp only [geR]
    rw [if_neg (fun z => g z.2)]
    exact h2
theorem swI_N {sh ow lk : Nat → Int32} {n : Nat} : ∀ q (S : SW), SwN sh n S → SwN sh n (swI sh ow lk n q S)
  | 0, _, h => h
  | q + 1, S, h => swI_N q (swR sh ow lk n S) (swR_N h)
theorem hw_HsI {sh ge hs : Nat → Int32} {n : Nat} (hn : n ≤ 8) (hsh : ∀ l, l < n → sh l = -1 ∨ ∃ s, s < 8 ∧ sh l = nI s) (hG : ∀ l, l < n → sh l ≠ -1 → ∃ s, s < 8 ∧ ge l = nI s) (h : HsI hs) : ∀ l, l ≤ n → HsI (hwF sh ge hs l)
  | 0, _ => h
  | l + 1, hl => by
    have ih := hw_HsI hn hsh hG h l (by omega)
    simp only [hwF]
    by_cases g : sh l = -1
    · rw [if_pos g]; exact ih
    · rw [if_neg g]
      obtain ⟨a, ha, ea⟩ := (hsh l (by omega)).resolve_left g
      obtain ⟨b, hb, eb⟩ := hG l (by omega) g
      rw [ea, eb, nI_clamp (by omega), nI_clamp (by omega)]
      have i1 : HsI (upd (hwF sh ge hs l) (8 * l + a) (mxF 0 (hwF sh ge hs l (8 * l + a) - 1))) := by
        obtain ⟨y, hy, ey⟩ := ih (8 * l + a) (by omega)
        refine hs_upd ih ?_
        rw [ey]
        exact (mm_dn hy).2
      obtain ⟨y, hy, ey⟩ := i1 (8 * l + b) (by omega)
      refine hs_upd i1 ?_
      rw [ey]
      exact (mm_up hy).2
theorem sel_tab : (List.range 9).all (fun n => (List.range (2 ^ n)).all (fun z => decide (bitsI (fun l => hasB (nI z) (nI l)) n = nI z))) = true := by decide +kernel
theorem bits_self {n z : Nat} (hn : n ≤ 8) (hz : z < 2 ^ n) : bitsI (fun l => hasB (nI z) (nI l)) n = nI z := by
  have h1 := List.all_eq_true.mp sel_tab n (List.mem_range.mpr (by omega))
  exact of_decide_eq_true (List.all_eq_true.mp h1 z (List.mem_range.mpr hz))
theorem cnt_and {c d : Nat → Bool} : ∀ n, cntI (fun l => c l && d l) n ≤ cntI c n ∧ (cntI (fun l => c l && d l) n = cntI c n → ∀ l, l < n → (c l && d l) = c l)
  | 0 => ⟨Nat.le_refl _, fun _ l h => by omega⟩
  | n + 1 => by
    obtain ⟨h1, h2⟩ := cnt_and (c := c) (d := d) n
    cases hc : c n <;> cases hd : d n <;> simp only [cntI, hc, hd, Bool.and_self, Bool.and_false, Bool.and_true, Bool.false_eq_true, if_true, if_false, Nat.add_zero]
    all_goals
      refine ⟨by omega, fun e l hl => ?_⟩
      by_cases q : l = n
      · first | (exfalso; omega) | simp [q, hc, hd]
      · exact h2 (by omega) l (by omega)
theorem pp0 {kN : Nat → Nat} {ow lk ag th : Nat → Int32} {n : Nat} {so s : Int32} {L : List Int32} (h : ppF kN ow lk ag n so s 0 th = some L) : L = [] := by
  have := ppF_len 0 th L h
  exact List.eq_nil_of_length_eq_zero this
/-- all of a set are glad: by bits as by number -/
theorem glad_all {c : Nat → Bool} {n : Nat} {s : Int32} (hn : n ≤ 8) (h : inB s 0 (allS n) = true) : bitsI (fun l => hasB s (nI l) && c l) n = s ↔ nI (cntI (fun l => hasB s (nI l) && c l) n) = bcF s := by
  obtain ⟨z, hz, rfl⟩ := inB_allS hn h
  rw [bc_cnt hn hz]
  have l1 := cntI_le (fun l => hasB (nI z) (nI l) && c l) n
  have l2 := cntI_le (fun l => hasB (nI z) (nI l)) n
  rw [nI_eq (by omega) (by omega)]
  constructor
  · intro e
    refine cntI_congr n (fun l hl => ?_)
    have h1 := bits_has (c := fun l => hasB (nI z) (nI l) && c l) (m := l) n (by omega) hl
    rw [e] at h1
    exact h1.symm
  · intro e
    rw [bits_congr n ((cnt_and n).2 e), bits_self hn hz]
section XX
variable {iv : Value} {tP : Nat → Int32} {tL : Nat → Option Nat} {tA tK tC tS tH : Nat → Int32} {tN tE tZ tf : Int32} {mP : Nat → Int32} {mf : Int32} {eP eT eF : Nat → Int32} {ef eg : Int32} {ew : Value} {rx gx wx : Nat → Int32} {hv : Nat → Value} {tp : Nat → Int32} {td : Int32} {rf : Nat → Int32} {rc ic : Nat → AC} {th : Nat → Int32} {pf : Int32} {nl : Nat → Option Nat} {ag lk co sh hs : Nat → Int32} {my ev se : Int32} {lc : Nat → AC} {r0 r3 : List AC} {Q : Option Value → AHp → Prop} {n : Nat} {kN : Nat → Nat} {ow : Nat → Int32}
variable {ou ge : Nat → Int32}
theorem pX0_swap (hn : n ≤ 8) (hL : LkI lc r3 nl kN ow n) (hsh : ∀ l, l < n → sh l = -1 ∨ ∃ s, s < 8 ∧ sh l = nI s) (hH : HsI hs) (hQ : ∀ gx wx : Nat → Int32, Q (some (.int (nI (cntI (fun l => (swI sh ow lk n n (sw0 sh ou ge n)).2 l != sh l) n)))) (r0, (xC (.ref 2) iv tP tL tA tK tC tS tH tN tE tZ tf mP mf eP eT eF ef eg ew rx (gx) (wx) hv tp td rf rc ic), (wC th pf nl ag lk co (geR (fun l => sh l != -1) (swI sh ow lk n n (sw0 sh ou ge n)).2 sh n) (hwF sh (swI sh ow lk n n (sw0 sh ou ge n)).2 hs n) (nI n) ev se lc), r3)) : AMet mX0_swap 5 0 0 [.ref 1] (r0, (xC (.ref 2) iv tP tL tA tK tC tS tH tN tE tZ tf mP mf eP eT eF ef eg ew rx gx wx hv tp td rf rc ic), (wC th pf nl ag lk co sh hs (nI n) ev se lc), r3) Q := by
  refine AMet.ofRch rfl rfl (Nat.le_of_ble_eq_true rfl) ?_
  have hG : ∀ l, l < n → sh l ≠ -1 → (swI sh ow lk n n (sw0 sh ou ge n)).2 l ≠ -1 ∧ ∃ s, s < 8 ∧ (swI sh ow lk n n (sw0 sh ou ge n)).2 l = nI s := by
    intro l hl h
    obtain ⟨w, h1, h2, h3⟩ := sw_gets (ow := ow) (lk := lk) (ou := ou) (ge := ge) hn hl h
    rw [h3]
    exact ⟨h2, (hsh w h1).resolve_left h2⟩
  have hG0 : ∀ l, l < n → sh l = -1 → (swI sh ow lk n n (sw0 sh ou ge n)).2 l = -1 := fun l hl h => (swI_N (ow := ow) (lk := lk) n (sw0 sh ou ge n) sw0_N l hl h).2
  refine r_aload_n dX0_swap_0 rfl ?_
  refine r_callV (as := []) okX0_swaps bX0 rfl rfl q1417 dX0_swap_1 (Nat.le_of_ble_eq_true rfl) rfl (Nat.le_of_ble_eq_true rfl) (Nat.le_of_ble_eq_true rfl) (Nat.le_of_ble_eq_true rfl) (pX0_swaps (ou := ou) (ge := ge) hn hL (fun gx2 wx2 hg => ?_))
  refine r_aload_n dX0_swap_4 rfl ?_
  refine r_callV (as := []) okX0_manySwapped bX0 rfl rfl q1437 dX0_swap_5 (Nat.le_of_ble_eq_true rfl) rfl (Nat.le_of_ble_eq_true rfl) (Nat.le_of_ble_eq_true rfl) (Nat.le_of_ble_eq_true rfl) (pX0_manySwapped hn hg ?_)
  refine r_istore_n dX0_swap_8 (Nat.le_of_ble_eq_true rfl) ?_
  refine r_iconst 0 dX0_swap_9 (by decide) ?_
  refine r_istore_n dX0_swap_10 (Nat.le_of_ble_eq_true rfl) ?_
  generalize (swI sh ow lk n n (sw0 sh ou ge n)) = F at hQ hG hG0 hg ⊢
  have hHw := hw_HsI hn hsh (fun l hl h => (hG l hl h).2) hH
  refine eqP (P := fun z => Rch (mX0_swap, 5, 0, 0, oQ Q) 0 0 11 [some (.ref 1), some (.int (nI (cntI (fun l => F.2 l != sh l) n))), some (.int (nI 0))] [] (r0, (xC (.ref 2) iv tP tL tA tK tC tS tH tN tE tZ tf mP mf eP eT eF ef eg ew rx (gx2) (wx2) hv tp td rf rc ic), (wC th pf nl ag lk co (z) hs (nI n) ev se lc), r3)) (geR_0 (fun l => sh l != -1) F.2 sh) ?_
  refine loopUp (N := n) (P := fun k => Rch (mX0_swap, 5, 0, 0, oQ Q) 0 0 11 [some (.ref 1), some (.int (nI (cntI (fun l => F.2 l != sh l) n))), some (.int (nI k))] [] (r0, (xC (.ref 2) iv tP tL tA tK tC tS tH tN tE tZ tf mP mf eP eT eF ef eg ew rx (gx2) (wx2) hv tp td rf rc ic), (wC th pf nl ag lk co (geR (fun l => sh l != -1) F.2 sh k) (hwF sh F.2 hs k) (nI n) ev se lc), r3)) ?_ ?_
  · refine r_iload_n dX0_swap_11 rfl ?_
    refine r_aload_n dX0_swap_12 rfl ?_
    refine r_get bX0 0 (by decide) q246 dX0_swap_13 rfl rfl ?_
    refine r_get bX1 7 (by decide) q179 dX0_swap_16 rfl rfl ?_
    refine r_icmp_ge 86 dX0_swap_19 (by decide) (fun _ => ?_) (fun c_ => absurd (Int32.le_refl _) c_)
    refine r_iload_n dX0_swap_86 rfl ?_
    exact r_iret dX0_swap_87 rfl (Nat.le_of_ble_eq_true rfl) (Nat.le_of_ble_eq_true rfl) (hQ _ _)
  · intro k hk ih
    have ek : geR (fun l => sh l != -1) F.2 sh k k = sh k := by simp [geR]
    have hgk := hg k hk
    have hHk := hHw k (by omega)
    by_cases g : sh k = -1
    · rw [geR_f (c := fun l => sh l != -1) (by simp [g]), hwF, if_pos g] at ih
      refine r_iload_n dX0_swap_11 rfl ?_
      refine r_aload_n dX0_swap_12 rfl ?_
      refine r_get bX0 0 (by decide) q246 dX0_swap_13 rfl rfl ?_
      refine r_get bX1 7 (by decide) q179 dX0_swap_16 rfl rfl ?_
      refine r_icmp_ge 86 dX0_swap_19 (by decide) (fun c_ => absurd c_ (geF hk (by omega))) (fun _ => ?_)
      refine r_aload_n dX0_swap_22 rfl ?_
      refine r_get bX0 6 (by decide) q252 dX0_swap_23 rfl rfl ?_
      refine r_iload_n dX0_swap_26 rfl ?_
      refine r_ialdN dX0_swap_27 rfl (by omega) (Nat.le_of_ble_eq_true rfl) ?_
      refine r_iconst (-1) dX0_swap_28 (by decide) ?_
      refine r_icmp_eq 80 dX0_swap_29 (by decide) (fun _ => ?_) (fun c_ => absurd (hgk.trans (hG0 k hk g)) c_)
      refine r_iincV dX0_swap_80 rfl (Nat.le_of_ble_eq_true rfl) (incN _) ?_
      refine r_goto 11 dX0_swap_83 (by decide) ?_
      exact ih
    · obtain ⟨a, ha, ea⟩ := (hsh k hk).resolve_left g
      obtain ⟨b1, b, hb, eb⟩ := hG k hk g
      rw [← geR_t (c := fun l => sh l != -1) (by simp [g]), hwF, if_neg g, ea, eb, nI_clamp (show a < 2 ^ 31 by omega), nI_clamp (show b < 2 ^ 31 by omega)] at ih
      have ek2 := ek.trans ea
      have hgk2 := hgk.trans eb
      obtain ⟨y, hy, ey⟩ := hHk (8 * k + a) (by omega)
      have e1 := (mm_dn hy).1
      rw [← ey] at e1
      have i1 : HsI (upd (hwF sh F.2 hs k) (8 * k + a) (mxF 0 (hwF sh F.2 hs k (8 * k + a) - 1))) := by
        refine hs_upd hHk ?_
        rw [ey]
        exact (mm_dn hy).2
      obtain ⟨y2, hy2, ey2⟩ := i1 (8 * k + b) (by omega)
      have e2 := (mm_up hy2).1
      rw [← ey2] at e2
      refine r_iload_n dX0_swap_11 rfl ?_
      refine r_aload_n dX0_swap_12 rfl ?_
      refine r_get bX0 0 (by decide) q246 dX0_swap_13 rfl rfl ?_
      refine r_get bX1 7 (by decide) q179 dX0_swap_16 rfl rfl ?_
      refine r_icmp_ge 86 dX0_swap_19 (by decide) (fun c_ => absurd c_ (geF hk (by omega))) (fun _ => ?_)
      refine r_aload_n dX0_swap_22 rfl ?_
      refine r_get bX0 6 (by decide) q252 dX0_swap_23 rfl rfl ?_
      refine r_iload_n dX0_swap_26 rfl ?_
      refine r_ialdN dX0_swap_27 rfl (by omega) (Nat.le_of_ble_eq_true rfl) ?_
      refine r_iconst (-1) dX0_swap_28 (by decide) ?_
      refine r_icmp_eq 80 dX0_swap_29 (by decide) (fun c_ => absurd c_ (fun z => b1 (hgk.symm.trans z))) (fun _ => ?_)
      refine r_aload_n dX0_swap_32 rfl ?_
      refine r_get bX0 0 (by decide) q246 dX0_swap_33 rfl rfl ?_
      refine r_iload_n dX0_swap_36 rfl ?_
      refine r_aload_n dX0_swap_37 rfl ?_
      refine r_get bX0 0 (by decide) q246 dX0_swap_38 rfl rfl ?_
      refine r_get bX1 5 (by decide) q174 dX0_swap_41 rfl rfl ?_
      refine r_iload_n dX0_swap_44 rfl ?_
      refine r_ialdN dX0_swap_45 rfl (by omega) (Nat.le_of_ble_eq_true rfl) ?_
      rw [ek2]
      refine r_iconst (-1) dX0_swap_46 (by decide) ?_
      refine r_callV (as := [_, _, _]) okX1_holds bX1 rfl rfl q1466 dX0_swap_47 (Nat.le_of_ble_eq_true rfl) rfl (Nat.le_of_ble_eq_true rfl) (Nat.le_of_ble_eq_true rfl) (Nat.le_of_ble_eq_true rfl) (pX1_holds (x := k) (s := a) (by omega) ha rfl rfl ?_)
      rw [e1]
      refine r_aload_n dX0_swap_50 rfl ?_
      refine r_get bX0 0 (by decide) q246 dX0_swap_51 rfl rfl ?_
      refine r_iload_n dX0_swap_54 rfl ?_
      refine r_aload_n dX0_swap_55 rfl ?_
      refine r_get bX0 6 (by decide) q252 dX0_swap_56 rfl rfl ?_
      refine r_iload_n dX0_swap_59 rfl ?_
      refine r_ialdN dX0_swap_60 rfl (by omega) (Nat.le_of_ble_eq_true rfl) ?_
      rw [hgk2]
      refine r_iconst 1 dX0_swap_61 (by decide) ?_
      refine r_callV (as := [_, _, _]) okX1_holds bX1 rfl rfl q1466 dX0_swap_62 (Nat.le_of_ble_eq_true rfl) rfl (Nat.le_of_ble_eq_true rfl) (Nat.le_of_ble_eq_true rfl) (Nat.le_of_ble_eq_true rfl) (pX1_holds (x := k) (s := b) (by omega) hb rfl rfl ?_)
      rw [e2]
      refine r_aload_n dX0_swap_65 rfl ?_
      refine r_get bX0 0 (by decide) q246 dX0_swap_66 rfl rfl ?_
      refine r_get bX1 5 (by decide) q174 dX0_swap_69 rfl rfl ?_
      refine r_iload_n dX0_swap_72 rfl ?_
      refine r_aload_n dX0_swap_73 rfl ?_
      refine r_get bX0 6 (by decide) q252 dX0_swap_74 rfl rfl ?_
      refine r_iload_n dX0_swap_77 rfl ?_
      refine r_ialdN dX0_swap_78 rfl (by omega) (Nat.le_of_ble_eq_true rfl) ?_
      rw [hgk2]
      refine r_iastN dX0_swap_79 rfl (by omega) (Nat.le_of_ble_eq_true rfl) ?_
      refine r_iincV dX0_swap_80 rfl (Nat.le_of_ble_eq_true rfl) (incN _) ?_
      refine r_goto 11 dX0_swap_83 (by decide) ?_
      exact ih
theorem pX0_firstEmpty {h : AHp} {o a s : Nat} {f : Int32} {P : Nat → Int32} (ha : aGet h a = some (.inr (2, [.ref s, .int f]))) (hs2 : aGet h s = some (.inl (.int, 12, .inl P))) (hQ : Q (some (.int (feF P))) h) : AMet mX0_firstEmpty 1 0 0 [.ref o, .ref a] h Q := by
  refine AMet.ofRch rfl rfl (Nat.le_of_ble_eq_true rfl) ?_
  refine r_iconst 0 dX0_firstEmpty_0 (by decide) ?_
  refine r_istore_n dX0_firstEmpty_1 (Nat.le_of_ble_eq_true rfl) ?_
  refine loopUp (N := 12) (P := fun k => feF P = fstG (fun p => P p == -1) (12 - k) k → Rch (mX0_firstEmpty, 1, 0, 0, oQ Q) 0 0 2 [some (.ref o), some (.ref a), some (.int (nI k))] [] h) ?_ ?_ rfl
  · intro e
    rw [Nat.sub_self] at e
    refine r_iload_n dX0_firstEmpty_2 rfl ?_
    refine r_bipush 12 dX0_firstEmpty_3 (by decide) ?_
    refine r_icmp_ge 26 dX0_firstEmpty_5 (by decide) (fun _ => ?_) (fun c_ => absurd (geT 12) c_)
    refine r_iconst (-1) dX0_firstEmpty_26 (by decide) ?_
    exact r_iret dX0_firstEmpty_27 rfl (Nat.le_of_ble_eq_true rfl) (Nat.le_of_ble_eq_true rfl) (qi e.symm hQ)
  · intro k hk ih e
    refine r_iload_n dX0_firstEmpty_2 rfl ?_
    refine r_bipush 12 dX0_firstEmpty_3 (by decide) ?_
    refine r_icmp_ge 26 dX0_firstEmpty_5 (by decide) (fun c_ => absurd c_ (geF hk (by decide))) (fun _ => ?_)
    refine r_aload_n dX0_firstEmpty_8 rfl ?_
    refine r_get bX2 0 (by decide) q146 dX0_firstEmpty_9 ha rfl ?_
    refine r_iload_n dX0_firstEmpty_12 rfl ?_
    refine r_ialdN dX0_firstEmpty_13 hs2 (by omega) (Nat.le_of_ble_eq_true rfl) ?_
    refine r_iconst (-1) dX0_firstEmpty_14 (by decide) ?_
    refine r_icmp_ne 20 dX0_firstEmpty_15 (by decide) (fun c_15 => ?_) (fun c_15 => ?_)
    · refine r_iincV dX0_firstEmpty_20 rfl (Nat.le_of_ble_eq_true rfl) (incN _) ?_
      refine r_goto 2 dX0_firstEmpty_23 (by decide) ?_
      exact ih (e.trans (fstG_f (c := fun p => P p == -1) hk (by simp [c_15])))
    · refine r_iload_n dX0_firstEmpty_18 rfl ?_
      exact r_iret dX0_firstEmpty_19 rfl (Nat.le_of_ble_eq_true rfl) (Nat.le_of_ble_eq_true rfl) (qi (by rw [e, fstG_t (c := fun p => P p == -1) hk (by simp [c_15])]) hQ)
theorem pX0_wanted {s : Int32} (hn : n ≤ 8) (hL : LkI lc r3 nl kN ow n) (hQ : Q (some (.int (soF ow s n))) (r0, (xC (.ref 2) iv tP tL tA tK tC tS tH tN tE tZ tf mP mf eP eT eF ef eg ew rx gx wx hv tp td rf rc ic), (wC th pf nl ag lk co sh hs (nI n) ev se lc), r3)) : AMet mX0_wanted 2 0 0 [.ref 1, .int s] (r0, (xC (.ref 2) iv tP tL tA tK tC tS tH tN tE tZ tf mP mf eP eT eF ef eg ew rx gx wx hv tp td rf rc ic), (wC th pf nl ag lk co sh hs (nI n) ev se lc), r3) Q := by
  refine AMet.ofRch rfl rfl (Nat.le_of_ble_eq_true rfl) ?_
  refine r_iconst 0 dX0_wanted_0 (by decide) ?_
  refine r_istore_n dX0_wanted_1 (Nat.le_of_ble_eq_true rfl) ?_
  refine r_iconst 0 dX0_wanted_2 (by decide) ?_
  refine r_istore_n dX0_wanted_3 (Nat.le_of_ble_eq_true rfl) ?_
  refine loopUp (N := n) (P := fun k => Rch (mX0_wanted, 2, 0, 0, oQ Q) 0 0 4 [some (.ref 1), some (.int s), some (.int (soF ow s k)), some (.int (nI k))] [] (r0, (xC (.ref 2) iv tP tL tA tK tC tS tH tN tE tZ tf mP mf eP eT eF ef eg ew rx gx wx hv tp td rf rc ic), (wC th pf nl ag lk co sh hs (nI n) ev se lc), r3)) ?_ ?_
  · refine r_iload_n dX0_wanted_4 rfl ?_
    refine r_aload_n dX0_wanted_5 rfl ?_
    refine r_get bX0 0 (by decide) q246 dX0_wanted_6 rfl rfl ?_
    refine r_get bX1 7 (by decide) q179 dX0_wanted_9 rfl rfl ?_
    refine r_icmp_ge 50 dX0_wanted_12 (by decide) (fun _ => ?_) (fun c_ => absurd (Int32.le_refl _) c_)
    refine r_iload_n dX0_wanted_50 rfl ?_
    exact r_iret dX0_wanted_51 rfl (Nat.le_of_ble_eq_true rfl) (Nat.le_of_ble_eq_true rfl) (hQ)
  · intro k hk ih
    obtain ⟨k6, v, la, hv8, ev8, enl, hla, hcell⟩ := hL.at hk
    simp only [soF] at ih
    rw [ev8] at ih
    refine r_iload_n dX0_wanted_4 rfl ?_
    refine r_aload_n dX0_wanted_5 rfl ?_
    refine r_get bX0 0 (by decide) q246 dX0_wanted_6 rfl rfl ?_
    refine r_get bX1 7 (by decide) q179 dX0_wanted_9 rfl rfl ?_
    refine r_icmp_ge 50 dX0_wanted_12 (by decide) (fun c_ => absurd c_ (geF hk (by omega))) (fun _ => ?_)
    refine r_iload_n dX0_wanted_15 rfl ?_
    refine r_iload_n dX0_wanted_16 rfl ?_
    refine r_iload_n dX0_wanted_17 rfl ?_
    refine r_callS (as := [_, _]) okX0_has q974 dX0_wanted_18 (Nat.le_of_ble_eq_true rfl) rfl (Nat.le_of_ble_eq_true rfl) (Nat.le_of_ble_eq_true rfl) (Nat.le_of_ble_eq_true rfl) (pX0_has ?_)
    refine r_if_eq 41 dX0_wanted_21 (by decide) (fun c_21 => ?_) (fun c_21 => ?_)
    · refine r_iconst 0 dX0_wanted_41 (by decide) ?_
      refine r_ior dX0_wanted_42 ?_
      refine r_istore_n dX0_wanted_43 (Nat.le_of_ble_eq_true rfl) ?_
      refine r_iincV dX0_wanted_44 rfl (Nat.le_of_ble_eq_true rfl) (incN _) ?_
      refine r_goto 4 dX0_wanted_47 (by decide) ?_
      first | (have q1 := b2i_0.mp c_21; rw [q1, if_neg (by decide)] at ih; exact ih) | (have q1 := b2i_n.mp c_21; rw [q1, if_pos rfl] at ih; exact ih)
    · refine r_iconst 1 dX0_wanted_24 (by decide) ?_
      refine r_aload_n dX0_wanted_25 rfl ?_
      refine r_get bX0 0 (by decide) q246 dX0_wanted_26 rfl rfl ?_
      refine r_get bX1 1 (by decide) q163 dX0_wanted_29 rfl rfl ?_
      refine r_iload_n dX0_wanted_32 rfl ?_
      refine r_aald_looker dX0_wanted_33 rfl (vp_in_nI (by omega) (by omega)) ?_
      rw [nI_clamp (by omega), enl]
      refine r_lkA q680 dX0_wanted_34 k6 (hcell _ _ _ _ _ _ _ _ _ _ _ _ _) ?_
      refine r_ishl dX0_wanted_37 ?_
      refine r_goto 42 dX0_wanted_38 (by decide) ?_
      refine r_ior dX0_wanted_42 ?_
      refine r_istore_n dX0_wanted_43 (Nat.le_of_ble_eq_true rfl) ?_
      refine r_iincV dX0_wanted_44 rfl (Nat.le_of_ble_eq_true rfl) (incN _) ?_
      refine r_goto 4 dX0_wanted_47 (by decide) ?_
      first | (have q1 := b2i_0.mp c_21; rw [q1, if_neg (by decide)] at ih; exact ih) | (have q1 := b2i_n.mp c_21; rw [q1, if_pos rfl] at ih; exact ih)
theorem pX0_makesGlad {s : Int32} (hn : n ≤ 8) (hL : LkI lc r3 nl kN ow n) (hs1 : inB s 0 (allS n) = true) : ∀ (d i : Nat) (mP rx eP eT eF : Nat → Int32) (ef eg : Int32) (ew : Value) (Q : Option Value → AHp → Prop), i + d ≤ 3 → ThI mP → (∀ (rx' mP' eP eT eF : Nat → Int32) (ef eg : Int32) (ew : Value), MoL rx rx' i (ppF kN ow lk ag n (soF ow s n) s d mP) → (ppF kN ow lk ag n (soF ow s n) s d mP = none → mP' = mP) → Q (some (.int (b2i (ppF kN ow lk ag n (soF ow s n) s d mP).isSome))) (r0, (xC (.ref 2) iv tP tL tA tK tC tS tH tN tE tZ tf (mP') mf eP eT eF ef eg ew (rx') gx wx hv tp td rf rc ic), (wC th pf nl ag lk co sh hs (nI n) ev se lc), r3)) → AMet mX0_makesGlad (10 + d) 0 0 [.ref 1, .int s, .int (nI i), .int (nI (i + d))] (r0, (xC (.ref 2) iv tP tL tA tK tC tS tH tN tE tZ tf mP mf eP eT eF ef eg ew rx gx wx hv tp td rf rc ic), (wC th pf nl ag lk co sh hs (nI n) ev se lc), r3) Q := by
  intro d
  induction d with
  | zero =>
    intro i mP rx eP eT eF ef eg ew Q hi hT hQ
    refine AMet.ofRch rfl rfl (Nat.le_of_ble_eq_true rfl) ?_
    refine r_iload_n dX0_makesGlad_0 rfl ?_
    refine r_iload_n dX0_makesGlad_1 rfl ?_
    refine r_icmp_ne 34 dX0_makesGlad_2 (by decide) (fun c_ => absurd (rfl) c_) (fun _ => ?_)
    refine r_aload_n dX0_makesGlad_5 rfl ?_
    refine r_get bX0 4 (by decide) q250 dX0_makesGlad_6 rfl rfl ?_
    refine r_aload_n dX0_makesGlad_9 rfl ?_
    refine r_get bX0 0 (by decide) q246 dX0_makesGlad_10 rfl rfl ?_
    refine r_aload_n dX0_makesGlad_13 rfl ?_
    refine r_get bX0 3 (by decide) q249 dX0_makesGlad_14 rfl rfl ?_
    refine r_iload_n dX0_makesGlad_17 rfl ?_
    refine r_callV (as := [_, _, _]) okX3_from bX3 rfl rfl q1323 dX0_makesGlad_18 (Nat.le_of_ble_eq_true rfl) rfl (Nat.le_of_ble_eq_true rfl) (Nat.le_of_ble_eq_true rfl) (Nat.le_of_ble_eq_true rfl) (pX3_from_m hn hL hT (fun ef2 => ?_))
    refine r_get bX3 4 (by decide) q223 dX0_makesGlad_21 rfl rfl ?_
    refine r_iload_n dX0_makesGlad_24 rfl ?_
    refine r_icmp_ne 32 dX0_makesGlad_25 (by decide) (fun c_25 => ?_) (fun c_25 => ?_)
    · refine r_iconst 0 dX0_makesGlad_32 (by decide) ?_
      exact r_zret (ty := .boolean) dX0_makesGlad_33 rfl (rfl) (Nat.le_of_ble_eq_true rfl) (Nat.le_of_ble_eq_true rfl) (by have key := glad_all (c := fun l => gladB mP ((evR kN ow lk ag n mP s).2.1 l) (ow l)) hn hs1; first | (have q1 : gcF kN ow lk ag n mP s = bcF s := key.mp c_25; exact qi (by simp only [ppF]; rw [if_pos q1]; rfl) (hQ rx mP _ _ _ _ _ _ ⟨fun _ _ => rfl, fun L hL k hk2 => by rw [pp0 hL] at hk2; simp at hk2⟩ (fun _ => rfl))) | (have q1 : ¬ gcF kN ow lk ag n mP s = bcF s := fun z => c_25 (key.mpr z); exact qi (by simp only [ppF]; rw [if_neg q1]; rfl) (hQ rx mP _ _ _ _ _ _ ⟨fun _ _ => rfl, fun L hL k hk2 => by rw [pp0 hL] at hk2; simp at hk2⟩ (fun _ => rfl))))
    · refine r_iconst 1 dX0_makesGlad_28 (by decide) ?_
      refine r_goto 33 dX0_makesGlad_29 (by decide) ?_
      exact r_zret (ty := .boolean) dX0_makesGlad_33 rfl (rfl) (Nat.le_of_ble_eq_true rfl) (Nat.le_of_ble_eq_true rfl) (by have key := glad_all (c := fun l => gladB mP ((evR kN ow lk ag n mP s).2.1 l) (ow l)) hn hs1; first | (have q1 : gcF kN ow lk ag n mP s = bcF s := key.mp c_25; exact qi (by simp only [ppF]; rw [if_pos q1]; rfl) (hQ rx mP _ _ _ _ _ _ ⟨fun _ _ => rfl, fun L hL k hk2 => by rw [pp0 hL] at hk2; simp at hk2⟩ (fun _ => rfl))) | (have q1 : ¬ gcF kN ow lk ag n mP s = bcF s := fun z => c_25 (key.mpr z); exact qi (by simp only [ppF]; rw [if_neg q1]; rfl) (hQ rx mP _ _ _ _ _ _ ⟨fun _ _ => rfl, fun L hL k hk2 => by rw [pp0 hL] at hk2; simp at hk2⟩ (fun _ => rfl))))
  | succ d ihd =>
    intro i mP rx eP eT eF ef eg ew Q hi hT hQ
    refine AMet.ofRch rfl rfl (Nat.le_of_ble_eq_true rfl) ?_
    have e32 : i < 3 := by omega
    have e00 : ¬ nI i = nI (i + (d + 1)) := fun z => by have := (nI_eq (by omega) (by omega)).mp z; omega
    refine r_iload_n dX0_makesGlad_0 rfl ?_
    refine r_iload_n dX0_makesGlad_1 rfl ?_
    refine r_icmp_ne 34 dX0_makesGlad_2 (by decide) (fun _ => ?_) (fun c_ => absurd c_ (e00))
    refine r_aload_n dX0_makesGlad_34 rfl ?_
    refine r_aload_n dX0_makesGlad_35 rfl ?_
    refine r_get bX0 3 (by decide) q249 dX0_makesGlad_36 rfl rfl ?_
    refine r_callV (as := [_]) okX0_firstEmpty bX0 rfl rfl q1341 dX0_makesGlad_39 (show 1 + 1 ≤ 10 + (d + 1) by omega) rfl (Nat.le_of_ble_eq_true rfl) (Nat.le_of_ble_eq_true rfl) (Nat.le_of_ble_eq_true rfl) (pX0_firstEmpty rfl rfl ?_)
    refine r_istore dX0_makesGlad_42 (Nat.le_of_ble_eq_true rfl) ?_
    refine r_iconst 0 dX0_makesGlad_44 (by decide) ?_
    refine r_istore dX0_makesGlad_45 (Nat.le_of_ble_eq_true rfl) ?_
    rcases fstI_cases (fun p => mP p == -1) 12 with ⟨hq2, -⟩ | ⟨q, hq, hqc, hq2, -⟩
    · have hq2 : feF mP = -1 := hq2
      have e3 : ppF kN ow lk ag n (soF ow s n) s (d + 1) mP = none := by simp only [ppF]; rw [if_pos hq2]
      rw [hq2]
      refine r_iload dX0_makesGlad_47 rfl ?_
      refine r_bipush 8 dX0_makesGlad_49 (by decide) ?_
      refine r_icmp_ge 124 dX0_makesGlad_51 (by decide) (fun c_ => absurd c_ (by decide)) (fun _ => ?_)
      refine r_iload dX0_makesGlad_54 rfl ?_
      refine r_iconst (-1) dX0_makesGlad_56 (by decide) ?_
      refine r_icmp_eq 124 dX0_makesGlad_57 (by decide) (fun _ => ?_) (fun c_ => absurd (rfl) c_)
      refine r_iconst 0 dX0_makesGlad_124 (by decide) ?_
      exact r_zret (ty := .boolean) dX0_makesGlad_125 rfl (rfl) (Nat.le_of_ble_eq_true rfl) (Nat.le_of_ble_eq_true rfl) (qi (by rw [e3]; rfl) (hQ rx mP _ _ _ _ _ _ ⟨fun _ _ => rfl, fun L hL => by rw [e3] at hL; cases hL⟩ (fun _ => rfl)))
    · have hq2 : feF mP = nI q := hq2
      have hq1 : mP q = -1 := by simpa using hqc
      have hR : ppF kN ow lk ag n (soF ow s n) s (d + 1) mP = ppS (fun th' => ppF kN ow lk ag n (soF ow s n) s d th') (soF ow s n) q mP 8 := by
        simp only [ppF]
        rw [if_neg (by rw [hq2]; exact nI_m1 (by omega)), hq2, nI_clamp (by omega)]
      have eth : ∀ x, upd (upd mP q x) q (-1) = mP := by
        intro x
        rw [upd_upd, ← hq1, upd_id]
      rw [hq2]
      refine loopUp (N := 8) (P := fun z => ppF kN ow lk ag n (soF ow s n) s (d + 1) mP = ppS (fun th' => ppF kN ow lk ag n (soF ow s n) s d th') (soF ow s n) q mP (8 - z) → ∀ (rx2 eP eT eF : Nat → Int32) (ef eg : Int32) (ew : Value), (∀ k, k < i → rx2 k = rx k) → Rch (mX0_makesGlad, 10 + (d + 1), 0, 0, oQ Q) 0 0 47 [some (.ref 1), some (.int s), some (.int (nI i)), some (.int (nI (i + (d + 1)))), some (.int (nI q)), some (.int (nI z))] [] (r0, (xC (.ref 2) iv tP tL tA tK tC tS tH tN tE tZ tf mP mf eP eT eF ef eg ew (rx2) gx wx hv tp td rf rc ic), (wC th pf nl ag lk co sh hs (nI n) ev se lc), r3)) ?_ ?_ hR _ _ _ _ _ _ _ (fun _ _ => rfl)
      · intro e rx2 eP eT eF ef eg ew hm
        have e2 : ppF kN ow lk ag n (soF ow s n) s (d + 1) mP = none := by rw [e]; rfl
        refine r_iload dX0_makesGlad_47 rfl ?_
        refine r_bipush 8 dX0_makesGlad_49 (by decide) ?_
        refine r_icmp_ge 124 dX0_makesGlad_51 (by decide) (fun _ => ?_) (fun c_ => absurd (geT 8) c_)
        refine r_iconst 0 dX0_makesGlad_124 (by decide) ?_
        exact r_zret (ty := .boolean) dX0_makesGlad_125 rfl (rfl) (Nat.le_of_ble_eq_true rfl) (Nat.le_of_ble_eq_true rfl) (qi (by rw [e2]; rfl) (hQ rx2 mP _ _ _ _ _ _ ⟨hm, fun L hL => by rw [e2] at hL; cases hL⟩ (fun _ => rfl)))
      · intro z hz ih e rx2 eP eT eF ef eg ew hm
        have e8 : 8 - z = (8 - (z + 1)) + 1 := by omega
        have e9 : 8 - (8 - (z + 1) + 1) = z := by omega
        rw [e8, ppS, e9] at e
        have hT2 : ThI (upd mP q (nI z)) := by
          intro j hj
          by_cases w : j = q
          · rw [w, pk_us]; exact Or.inr ⟨z, hz, rfl⟩
          · rw [pk_un w]; exact hT j hj
        refine r_iload dX0_makesGlad_47 rfl ?_
        refine r_bipush 8 dX0_makesGlad_49 (by decide) ?_
        refine r_icmp_ge 124 dX0_makesGlad_51 (by decide) (fun c_ => absurd c_ (geF hz (by decide))) (fun _ => ?_)
        refine r_iload dX0_makesGlad_54 rfl ?_
        refine r_iconst (-1) dX0_makesGlad_56 (by decide) ?_
        refine r_icmp_eq 124 dX0_makesGlad_57 (by decide) (fun c_ => absurd c_ (nI_m1 (by omega))) (fun _ => ?_)
        refine r_aload_n dX0_makesGlad_60 rfl ?_
        refine r_iload_n dX0_makesGlad_61 rfl ?_
        refine r_callV (as := [_]) okX0_wanted bX0 rfl rfl q1345 dX0_makesGlad_62 (by show _ ≤ 10 + (d + 1); omega) rfl (Nat.le_of_ble_eq_true rfl) (Nat.le_of_ble_eq_true rfl) (Nat.le_of_ble_eq_true rfl) (pX0_wanted hn hL ?_)
        refine r_iload dX0_makesGlad_65 rfl ?_
        refine r_callS (as := [_, _]) okX0_has q974 dX0_makesGlad_67 (by show _ ≤ 10 + (d + 1); omega) rfl (Nat.le_of_ble_eq_true rfl) (Nat.le_of_ble_eq_true rfl) (Nat.le_of_ble_eq_true rfl) (pX0_has ?_)
        refine r_if_eq 118 dX0_makesGlad_70 (by decide) (fun c_70 => ?_) (fun c_70 => ?_)
        · refine r_iincV dX0_makesGlad_118 rfl (Nat.le_of_ble_eq_true rfl) (incN _) ?_
          refine r_goto 47 dX0_makesGlad_121 (by decide) ?_
          have q1 := b2i_0.mp c_70
          rw [if_neg (by rw [q1]; decide)] at e
          exact ih e rx2 _ _ _ _ _ _ hm
        · have q1 := b2i_n.mp c_70
          rw [if_pos q1] at e
          refine r_aload_n dX0_makesGlad_73 rfl ?_
          refine r_get bX0 5 (by decide) q251 dX0_makesGlad_74 rfl rfl ?_
          refine r_iload_n dX0_makesGlad_77 rfl ?_
          refine r_iload dX0_makesGlad_78 rfl ?_
          refine r_iastN dX0_makesGlad_80 rfl (by omega) (Nat.le_of_ble_eq_true rfl) ?_
          refine r_aload_n dX0_makesGlad_81 rfl ?_
          refine r_get bX0 3 (by decide) q249 dX0_makesGlad_82 rfl rfl ?_
          refine r_get bX2 0 (by decide) q146 dX0_makesGlad_85 rfl rfl ?_
          refine r_iload dX0_makesGlad_88 rfl ?_
          refine r_iload dX0_makesGlad_90 rfl ?_
          refine r_iastN dX0_makesGlad_92 rfl (by omega) (Nat.le_of_ble_eq_true rfl) ?_
          refine r_aload_n dX0_makesGlad_93 rfl ?_
          refine r_iload_n dX0_makesGlad_94 rfl ?_
          refine r_iload_n dX0_makesGlad_95 rfl ?_
          refine r_iconst 1 dX0_makesGlad_96 (by decide) ?_
          refine r_iadd dX0_makesGlad_97 ?_
          rw [nI_1]
          refine r_iload_n dX0_makesGlad_98 rfl ?_
          rw [show i + (d + 1) = (i + 1) + d by omega]
          refine r_callV (as := [_, _, _]) okX0_makesGlad bX0 rfl rfl q1337 dX0_makesGlad_99 (Nat.le_refl _) rfl (Nat.le_of_ble_eq_true rfl) (Nat.le_of_ble_eq_true rfl) (Nat.le_of_ble_eq_true rfl) (ihd (i + 1) _ _ _ _ _ _ _ _ _ (by omega) hT2 (fun rx3 mP3 eP3 eT3 eF3 ef3 eg3 ew3 hm3 hn3 => ?_))
          have hm4 : ∀ k, k < i → rx3 k = rx k := fun k hk2 => by rw [hm3.1 k (by omega), pk_un (by omega)]; exact hm k hk2
          have hm5 : rx3 i = nI z := by rw [hm3.1 i (by omega), pk_us]
          cases hF : ppF kN ow lk ag n (soF ow s n) s d (upd mP q (nI z)) with
          | none =>
            rw [hF] at e
            have e7 : b2i (none : Option (List Int32)).isSome = 0 := rfl
            rw [e7, hn3 hF]
            refine r_if_eq 107 dX0_makesGlad_102 (by decide) (fun _ => ?_) (fun c_ => absurd (rfl) c_)
            refine r_aload_n dX0_makesGlad_107 rfl ?_
            refine r_get bX0 3 (by decide) q249 dX0_makesGlad_108 rfl rfl ?_
            refine r_get bX2 0 (by decide) q146 dX0_makesGlad_111 rfl rfl ?_
            refine r_iload dX0_makesGlad_114 rfl ?_
            refine r_iconst (-1) dX0_makesGlad_116 (by decide) ?_
            refine r_iastN dX0_makesGlad_117 rfl (by omega) (Nat.le_of_ble_eq_true rfl) ?_
            rw [eth]
            refine r_iincV dX0_makesGlad_118 rfl (Nat.le_of_ble_eq_true rfl) (incN _) ?_
            refine r_goto 47 dX0_makesGlad_121 (by decide) ?_
            rw [show (i + 1) + d = i + (d + 1) by omega]
            exact ih e rx3 _ _ _ _ _ _ hm4
          | some L =>
            rw [hF] at e
            have e7 : b2i (some L : Option (List Int32)).isSome = 1 := rfl
            rw [e7]
            have hm6 : MoL rx rx3 i (ppF kN ow lk ag n (soF ow s n) s (d + 1) mP) := by
              rw [e]
              refine ⟨hm4, fun L2 hL2 k hk2 => ?_⟩
              cases hL2
              match k, hk2 with
              | 0, _ => exact hm5
              | k + 1, hk2 =>
                have := hm3.2 L hF k (by simpa using hk2)
                rw [show i + (k + 1) = i + 1 + k by omega, this]
                rfl
            refine r_if_eq 107 dX0_makesGlad_102 (by decide) (fun c_ => absurd c_ (by decide)) (fun _ => ?_)
            refine r_iconst 1 dX0_makesGlad_105 (by decide) ?_
            exact r_zret (ty := .boolean) dX0_makesGlad_106 rfl (rfl) (Nat.le_of_ble_eq_true rfl) (Nat.le_of_ble_eq_true rfl) (qi (by rw [e]; rfl) (hQ rx3 mP3 _ _ _ _ _ _ hm6 (fun z => by rw [e] at z; cases z)))
end XX
