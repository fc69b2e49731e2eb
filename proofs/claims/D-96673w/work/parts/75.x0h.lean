set_option maxRecDepth 100000
/-! the component: swaps -/
theorem it_rg {f : Nat → Nat} {l : Nat} : ∀ q w, rgG f l q w = true → ∃ t, t ≤ q ∧ itN f t w = l
  | 0, w, h => ⟨0, Nat.le_refl _, by have h2 : w = l := (by simpa [rgG] using h); exact h2⟩
  | q + 1, w, h => by
    simp only [rgG] at h
    by_cases g : w = l
    · exact ⟨0, by omega, g⟩
    · rw [if_neg g] at h
      obtain ⟨t, ht, e⟩ := it_rg q (f w) h
      exact ⟨t + 1, by omega, e⟩
theorem it_short {f : Nat → Nat} {A : Nat → Prop} {n l : Nat} (hA : ∀ j, A j → j < n ∧ A (f j)) (w : Nat) (hw : A w) : ∀ t, itN f t w = l → ∃ t', t' ≤ n ∧ itN f t' w = l := by
  intro t
  induction t using Nat.strongRecOn with
  | ind t ih =>
  intro e
  by_cases g : t ≤ n
  · exact ⟨t, g, e⟩
  · have hin := fun k => it_in (fun j hj => (hA j hj).2) k w hw
    obtain ⟨i, j, h1, h2, h3⟩ := pigeon n (fun k => itN f k w) (fun k _ => (hA _ (hin k)).1)
    have h3 : itN f i w = itN f j w := h3
    refine ih (i + (t - j)) (by omega) ?_
    rw [it_add, h3, ← it_add, show j + (t - j) = t by omega]
    exact e
theorem rg_8 {f : Nat → Nat} {A : Nat → Prop} {n l : Nat} (hn : n ≤ 8) (hA : ∀ j, A j → j < n ∧ A (f j)) (w : Nat) (hw : A w) : rgG f l 8 w = rgG f l n w := by
  rw [Bool.eq_iff_iff]
  constructor
  · intro h
    obtain ⟨t, -, e⟩ := it_rg 8 w h
    obtain ⟨t2, h2, e2⟩ := it_short hA w hw t e
    exact rg_it n w t2 h2 e2
  · intro h
    obtain ⟨t, h2, e⟩ := it_rg n w h
    exact rg_it 8 w t (by omega) e
theorem tw_tab : (List.range 12).all (fun n => decide (((1 : Int32) <<< (nI n &&& 31)).toBitVec = BitVec.twoPow 32 n)) = true := by decide +kernel
theorem bits_lsb {c : Nat → Bool} {i : Nat} : ∀ n, n ≤ 12 → (bitsI c n).toBitVec.getLsbD i = (decide (i < n) && c i)
  | 0, _ => by
    show (0#32).getLsbD i = _
    simp
  | n + 1, h => by
    have ih := bits_lsb (c := c) (i := i) n (by omega)
    have e := of_decide_eq_true (List.all_eq_true.mp tw_tab n (List.mem_range.mpr (by omega)))
    simp only [bitsI]
    show ((bitsI c n).toBitVec ||| (if c n = true then (1 : Int32) <<< (nI n &&& 31) else 0).toBitVec).getLsbD i = _
    rw [BitVec.getLsbD_or, ih]
    by_cases g : c n = true
    · rw [if_pos g, e, BitVec.getLsbD_twoPow]
      by_cases q : i = n
      · subst q
        simp [g]
        omega
      · have q2 : ¬ n = i := fun z => q z.symm
        have : (decide (i < n + 1)) = decide (i < n) := by
          by_cases z : i < n
          · simp [z]; omega
          · simp [z]; omega
        rw [this]
        simp [q2]
    · rw [if_neg g]
      show (_ || (0#32).getLsbD i) = _
      by_cases q : i = n
      · subst q
        simp [g]
      · have : (decide (i < n + 1)) = decide (i < n) := by
          by_cases z : i < n
          · simp [z]; omega
          · simp [z]; omega
        rw [this]
        simp
theorem bits_anot {c d : Nat → Bool} {n : Nat} (hn : n ≤ 12) : bitsI c n &&& (bitsI d n ^^^ -1) = bitsI (fun l => c l && !d l) n := by
  apply Int32.toBitVec_inj.mp
  apply BitVec.eq_of_getLsbD_eq
  intro i hi
  show ((bitsI c n).toBitVec &&& ((bitsI d n).toBitVec ^^^ (-1 : Int32).toBitVec)).getLsbD i = _
  rw [BitVec.getLsbD_and, BitVec.getLsbD_xor, bits_lsb n hn, bits_lsb n hn, bits_lsb n hn]
  have e : (-1 : Int32).toBitVec.getLsbD i = true := by
    show (BitVec.allOnes 32).getLsbD i = true
    rw [BitVec.getLsbD_allOnes]
    exact decide_eq_true hi
  rw [e]
  cases decide (i < n) <;> cases c i <;> cases d i <;> rfl
theorem bits_congr {c d : Nat → Bool} : ∀ n, (∀ l, l < n → c l = d l) → bitsI c n = bitsI d n
  | 0, _ => rfl
  | n + 1, h => by
    simp only [bitsI]
    rw [h n (by omega), bits_congr n (fun l hl => h l (by omega))]
theorem bits_0 {c : Nat → Bool} {n : Nat} (hn : n ≤ 12) : bitsI c n = 0 ↔ cntI c n = 0 := by
  constructor
  · intro h
    by_cases g : cntI c n = 0
    · exact g
    · exfalso
      obtain ⟨l, hl, hc⟩ := cnt_ex n (by omega : 0 < cntI c n)
      have h2 := bits_has (c := c) n hn hl
      rw [h, has_0 (by omega), hc] at h2
      cases h2
  · intro h
    rw [bits_congr (d := fun _ => false) n (fun l hl => by
      cases hc : c l with
      | false => rfl
      | true =>
        exfalso
        have := cntI_drop (c := c) (d := fun j => if j = l then false else c j) (q := l) hc (by simp) (fun j hj => by simp [hj]) n hl
        omega)]
    have key : ∀ k, bitsI (fun _ => false) k = 0 := by
      intro k
      induction k with
      | zero => rfl
      | succ k ih =>
        simp only [bitsI, Bool.false_eq_true, if_false]
        rw [ih]
        rfl
    exact key n
theorem ws_mask {b : Nat → Int32} {lk : Int32} {w : Nat} (hw : w < 8) (hb : b w = -1) : ∀ q k v, k + q ≤ 8 → wsG b (lk ||| (1 <<< (nI w &&& 31))) q k v = wsG b lk q k v
  | 0, _, _, _ => rfl
  | q + 1, k, v, h => by
    rw [wsG_s, wsG_s]
    by_cases g : v = -1
    · rw [if_pos g, if_pos g, ws_mask hw hb q (k + 1) _ (by omega)]
      congr 1
      by_cases e : w = k
      · subst e
        rw [has_self (by omega), if_pos rfl, hb]
        split
        · rfl
        · exact g.symm
      · rw [has_or (by omega) (by omega) e]
    · rw [if_neg g, if_neg g]
section XX
variable {iv : Value} {tP : Nat → Int32} {tL : Nat → Option Nat} {tA tK tC tS tH : Nat → Int32} {tN tE tZ tf : Int32} {mP : Nat → Int32} {mf : Int32} {eP eT eF : Nat → Int32} {ef eg : Int32} {ew : Value} {rx gx wx : Nat → Int32} {hv : Nat → Value} {tp : Nat → Int32} {td : Int32} {rf : Nat → Int32} {rc ic : Nat → AC} {th : Nat → Int32} {pf : Int32} {nl : Nat → Option Nat} {ag lk co sh hs : Nat → Int32} {my ev se : Int32} {lc : Nat → AC} {r0 r3 : List AC} {Q : Option Value → AHp → Prop} {n : Nat} {kN : Nat → Nat} {ow : Nat → Int32}
variable {ou ge : Nat → Int32}
theorem br_left (hn : n ≤ 8) {s : Int32} : fstI (fun l => hasB (bitsI (fun l => ou l == 0) n) (nI l) && sh l == s) n = brF sh ou n s :=
  fstG_congr n 0 (fun j _ hj => by
    have := bits_has (c := fun l => ou l == 0) (m := j) n (by omega) (by omega)
    rw [this])
theorem pX0_bringer {s : Int32} (hn : n ≤ 8) (hQ : Q (some (.int (brF sh ou n s))) (r0, (xC (.ref 2) iv tP tL tA tK tC tS tH tN tE tZ tf mP mf eP eT eF ef eg ew rx gx wx hv tp td rf rc ic), (wC th pf nl ag lk co sh hs (nI n) ev se lc), r3)) : AMet mX0_bringer 2 0 0 [.ref 1, .int s, .int (bitsI (fun l => ou l == 0) n)] (r0, (xC (.ref 2) iv tP tL tA tK tC tS tH tN tE tZ tf mP mf eP eT eF ef eg ew rx gx wx hv tp td rf rc ic), (wC th pf nl ag lk co sh hs (nI n) ev se lc), r3) Q := by
  refine AMet.ofRch rfl rfl (Nat.le_of_ble_eq_true rfl) ?_
  rw [← br_left hn] at hQ
  generalize bitsI (fun l => ou l == 0) n = lf at hQ ⊢
  refine r_iconst 0 dX0_bringer_0 (by decide) ?_
  refine r_istore_n dX0_bringer_1 (Nat.le_of_ble_eq_true rfl) ?_
  refine loopUp (N := n) (P := fun k => fstI (fun l => hasB lf (nI l) && sh l == s) n = fstG (fun l => hasB lf (nI l) && sh l == s) (n - k) k → Rch (mX0_bringer, 2, 0, 0, oQ Q) 0 0 2 [some (.ref 1), some (.int s), some (.int lf), some (.int (nI k))] [] (r0, (xC (.ref 2) iv tP tL tA tK tC tS tH tN tE tZ tf mP mf eP eT eF ef eg ew rx gx wx hv tp td rf rc ic), (wC th pf nl ag lk co sh hs (nI n) ev se lc), r3)) ?_ ?_ rfl
  · intro e
    rw [Nat.sub_self] at e
    refine r_iload_n dX0_bringer_2 rfl ?_
    refine r_aload_n dX0_bringer_3 rfl ?_
    refine r_get bX0 0 (by decide) q246 dX0_bringer_4 rfl rfl ?_
    refine r_get bX1 7 (by decide) q179 dX0_bringer_7 rfl rfl ?_
    refine r_icmp_ge 42 dX0_bringer_10 (by decide) (fun _ => ?_) (fun c_ => absurd (Int32.le_refl _) c_)
    refine r_iconst (-1) dX0_bringer_42 (by decide) ?_
    exact r_iret dX0_bringer_43 rfl (Nat.le_of_ble_eq_true rfl) (Nat.le_of_ble_eq_true rfl) (qi e.symm hQ)
  · intro k hk ih e
    refine r_iload_n dX0_bringer_2 rfl ?_
    refine r_aload_n dX0_bringer_3 rfl ?_
    refine r_get bX0 0 (by decide) q246 dX0_bringer_4 rfl rfl ?_
    refine r_get bX1 7 (by decide) q179 dX0_bringer_7 rfl rfl ?_
    refine r_icmp_ge 42 dX0_bringer_10 (by decide) (fun c_ => absurd c_ (geF hk (by omega))) (fun _ => ?_)
    refine r_iload_n dX0_bringer_13 rfl ?_
    refine r_iload_n dX0_bringer_14 rfl ?_
    refine r_callS (as := [_, _]) okX0_has q974 dX0_bringer_15 (Nat.le_of_ble_eq_true rfl) rfl (Nat.le_of_ble_eq_true rfl) (Nat.le_of_ble_eq_true rfl) (Nat.le_of_ble_eq_true rfl) (pX0_has ?_)
    refine r_if_eq 36 dX0_bringer_18 (by decide) (fun c_18 => ?_) (fun c_18 => ?_)
    · refine r_iincV dX0_bringer_36 rfl (Nat.le_of_ble_eq_true rfl) (incN _) ?_
      refine r_goto 2 dX0_bringer_39 (by decide) ?_
      exact ih (e.trans (fstG_f (c := fun l => hasB lf (nI l) && sh l == s) hk (by first | (rw [b2i_0.mp c_18]; simp) | simp [c_31])))
    · refine r_aload_n dX0_bringer_21 rfl ?_
      refine r_get bX0 0 (by decide) q246 dX0_bringer_22 rfl rfl ?_
      refine r_get bX1 5 (by decide) q174 dX0_bringer_25 rfl rfl ?_
      refine r_iload_n dX0_bringer_28 rfl ?_
      refine r_ialdN dX0_bringer_29 rfl (by omega) (Nat.le_of_ble_eq_true rfl) ?_
      refine r_iload_n dX0_bringer_30 rfl ?_
      refine r_icmp_ne 36 dX0_bringer_31 (by decide) (fun c_31 => ?_) (fun c_31 => ?_)
      · refine r_iincV dX0_bringer_36 rfl (Nat.le_of_ble_eq_true rfl) (incN _) ?_
        refine r_goto 2 dX0_bringer_39 (by decide) ?_
        exact ih (e.trans (fstG_f (c := fun l => hasB lf (nI l) && sh l == s) hk (by first | (rw [b2i_0.mp c_18]; simp) | simp [c_31])))
      · refine r_iload_n dX0_bringer_34 rfl ?_
        exact r_iret dX0_bringer_35 rfl (Nat.le_of_ble_eq_true rfl) (Nat.le_of_ble_eq_true rfl) (qi (by rw [e, fstG_t (c := fun l => hasB lf (nI l) && sh l == s) hk (by rw [b2i_n.mp c_18]; simp [c_31])]) hQ)
theorem pX0_wishOf {l : Nat} (hn : n ≤ 8) (hL : LkI lc r3 nl kN ow n) (hl : l < n) (hQ : Q (some (.int (wiF sh ou ow lk n l))) (r0, (xC (.ref 2) iv tP tL tA tK tC tS tH tN tE tZ tf mP mf eP eT eF ef eg ew rx gx wx hv tp td rf rc ic), (wC th pf nl ag lk co sh hs (nI n) ev se lc), r3)) : AMet mX0_wishOf 3 0 0 [.ref 1, .int (nI l), .int (bitsI (fun l => ou l == 0) n)] (r0, (xC (.ref 2) iv tP tL tA tK tC tS tH tN tE tZ tf mP mf eP eT eF ef eg ew rx gx wx hv tp td rf rc ic), (wC th pf nl ag lk co sh hs (nI n) ev se lc), r3) Q := by
  refine AMet.ofRch rfl rfl (Nat.le_of_ble_eq_true rfl) ?_
  obtain ⟨k6, v, la, hv8, ev8, enl, hla, hcell⟩ := hL.at hl
  have hfin : ∀ (z : Int32) (x : Option Value), wsG (fun k => brF sh ou n (nI k)) (lk l) 8 0 (brF sh ou n (ow l)) = z → Rch (mX0_wishOf, 3, 0, 0, oQ Q) 0 0 67 [some (.ref 1), some (.int (nI l)), some (.int (bitsI (fun l => ou l == 0) n)), some (.int z), x] [] (r0, (xC (.ref 2) iv tP tL tA tK tC tS tH tN tE tZ tf mP mf eP eT eF ef eg ew rx gx wx hv tp td rf rc ic), (wC th pf nl ag lk co sh hs (nI n) ev se lc), r3) := by
    intro z x e
    unfold wiF at hQ
    rw [e] at hQ
    generalize bitsI (fun l => ou l == 0) n = lf
    refine r_iload_n dX0_wishOf_67 rfl ?_
    refine r_iconst (-1) dX0_wishOf_68 (by decide) ?_
    refine r_icmp_ne 76 dX0_wishOf_69 (by decide) (fun c_69 => ?_) (fun c_69 => ?_)
    · refine r_iload_n dX0_wishOf_76 rfl ?_
      exact r_iret dX0_wishOf_77 rfl (Nat.le_of_ble_eq_true rfl) (Nat.le_of_ble_eq_true rfl) (by first | (have q1 : z = -1 := c_69; rw [if_pos q1] at hQ; exact hQ) | (have q1 : ¬ z = -1 := c_69; rw [if_neg q1] at hQ; exact hQ))
    · refine r_iload_n dX0_wishOf_72 rfl ?_
      refine r_goto 77 dX0_wishOf_73 (by decide) ?_
      exact r_iret dX0_wishOf_77 rfl (Nat.le_of_ble_eq_true rfl) (Nat.le_of_ble_eq_true rfl) (by first | (have q1 : z = -1 := c_69; rw [if_pos q1] at hQ; exact hQ) | (have q1 : ¬ z = -1 := c_69; rw [if_neg q1] at hQ; exact hQ))
  refine r_aload_n dX0_wishOf_0 rfl ?_
  refine r_aload_n dX0_wishOf_1 rfl ?_
  refine r_get bX0 0 (by decide) q246 dX0_wishOf_2 rfl rfl ?_
  refine r_get bX1 1 (by decide) q163 dX0_wishOf_5 rfl rfl ?_
  refine r_iload_n dX0_wishOf_8 rfl ?_
  refine r_aald_looker dX0_wishOf_9 rfl (vp_in_nI (by omega) (by omega)) ?_
  rw [nI_clamp (by omega), enl]
  refine r_lkA q680 dX0_wishOf_10 k6 (hcell _ _ _ _ _ _ _ _ _ _ _ _ _) ?_
  refine r_iload_n dX0_wishOf_13 rfl ?_
  refine r_callV (as := [_, _]) okX0_bringer bX0 rfl rfl q1425 dX0_wishOf_14 (Nat.le_of_ble_eq_true rfl) rfl (Nat.le_of_ble_eq_true rfl) (Nat.le_of_ble_eq_true rfl) (Nat.le_of_ble_eq_true rfl) (pX0_bringer hn ?_)
  refine r_istore_n dX0_wishOf_17 (Nat.le_of_ble_eq_true rfl) ?_
  refine r_iconst 0 dX0_wishOf_18 (by decide) ?_
  refine r_istore dX0_wishOf_19 (Nat.le_of_ble_eq_true rfl) ?_
  rw [← ev8]
  by_cases g0 : brF sh ou n (ow l) = -1
  · have hm := ws_mask (b := fun k => brF sh ou n (nI k)) (lk := lk l) (w := v) hv8 (by rw [← ev8]; exact g0) 8 0 (brF sh ou n (ow l)) (by omega)
    rw [← hm] at hfin
    generalize hM : lk l ||| (1 <<< (nI v &&& 31)) = M at hfin
    refine loopUp (N := 8) (P := fun k => ∀ z, wsG (fun k => brF sh ou n (nI k)) M 8 0 (brF sh ou n (ow l)) = wsG (fun k => brF sh ou n (nI k)) M (8 - k) k z → Rch (mX0_wishOf, 3, 0, 0, oQ Q) 0 0 21 [some (.ref 1), some (.int (nI l)), some (.int (bitsI (fun l => ou l == 0) n)), some (.int z), some (.int (nI k))] [] (r0, (xC (.ref 2) iv tP tL tA tK tC tS tH tN tE tZ tf mP mf eP eT eF ef eg ew rx gx wx hv tp td rf rc ic), (wC th pf nl ag lk co sh hs (nI n) ev se lc), r3)) ?_ ?_ _ (by rw [Nat.sub_zero])
    · intro z e
      rw [Nat.sub_self, wsG] at e
      refine r_iload dX0_wishOf_21 rfl ?_
      refine r_bipush 8 dX0_wishOf_23 (by decide) ?_
      refine r_icmp_ge 67 dX0_wishOf_25 (by decide) (fun _ => ?_) (fun c_ => absurd (geT 8) c_)
      exact hfin _ _ e
    · intro k hk ih z e
      rw [show 8 - k = (8 - (k + 1)) + 1 by omega, wsG_s _ _ (8 - (k + 1)) k z] at e
      by_cases g : z = -1
      · rw [if_pos g] at e
        refine r_iload dX0_wishOf_21 rfl ?_
        refine r_bipush 8 dX0_wishOf_23 (by decide) ?_
        refine r_icmp_ge 67 dX0_wishOf_25 (by decide) (fun c_ => absurd c_ (geF hk (by decide))) (fun _ => ?_)
        refine r_iload_n dX0_wishOf_28 rfl ?_
        refine r_iconst (-1) dX0_wishOf_29 (by decide) ?_
        refine r_icmp_ne 67 dX0_wishOf_30 (by decide) (fun c_ => absurd (g) c_) (fun _ => ?_)
        refine r_aload_n dX0_wishOf_33 rfl ?_
        refine r_get bX0 0 (by decide) q246 dX0_wishOf_34 rfl rfl ?_
        refine r_iload_n dX0_wishOf_37 rfl ?_
        refine r_callV (as := [_]) okX1_liked bX1 rfl rfl q1396 dX0_wishOf_38 (Nat.le_of_ble_eq_true rfl) rfl (Nat.le_of_ble_eq_true rfl) (Nat.le_of_ble_eq_true rfl) (Nat.le_of_ble_eq_true rfl) (pX1_liked (w := nI v) (c := kN l) (by omega) rfl rfl rfl enl k6 (hcell _ _ _ _ _ _ _ _ _ _ _ _ _) ?_)
        rw [hM]
        refine r_iload dX0_wishOf_41 rfl ?_
        refine r_callS (as := [_, _]) okX0_has q974 dX0_wishOf_43 (Nat.le_of_ble_eq_true rfl) rfl (Nat.le_of_ble_eq_true rfl) (Nat.le_of_ble_eq_true rfl) (Nat.le_of_ble_eq_true rfl) (pX0_has ?_)
        refine r_if_eq 59 dX0_wishOf_46 (by decide) (fun c_46 => ?_) (fun c_46 => ?_)
        · refine r_iconst (-1) dX0_wishOf_59 (by decide) ?_
          refine r_istore_n dX0_wishOf_60 (Nat.le_of_ble_eq_true rfl) ?_
          refine r_iincV dX0_wishOf_61 rfl (Nat.le_of_ble_eq_true rfl) (incN _) ?_
          refine r_goto 21 dX0_wishOf_64 (by decide) ?_
          first | (have q1 := b2i_0.mp c_46; rw [if_neg (by rw [q1]; decide), g] at e; exact ih _ e) | (have q1 := b2i_n.mp c_46; rw [if_pos q1] at e; exact ih _ e)
        · refine r_aload_n dX0_wishOf_49 rfl ?_
          refine r_iload dX0_wishOf_50 rfl ?_
          refine r_iload_n dX0_wishOf_52 rfl ?_
          refine r_callV (as := [_, _]) okX0_bringer bX0 rfl rfl q1425 dX0_wishOf_53 (Nat.le_of_ble_eq_true rfl) rfl (Nat.le_of_ble_eq_true rfl) (Nat.le_of_ble_eq_true rfl) (Nat.le_of_ble_eq_true rfl) (pX0_bringer hn ?_)
          refine r_goto 60 dX0_wishOf_56 (by decide) ?_
          refine r_istore_n dX0_wishOf_60 (Nat.le_of_ble_eq_true rfl) ?_
          refine r_iincV dX0_wishOf_61 rfl (Nat.le_of_ble_eq_true rfl) (incN _) ?_
          refine r_goto 21 dX0_wishOf_64 (by decide) ?_
          first | (have q1 := b2i_0.mp c_46; rw [if_neg (by rw [q1]; decide), g] at e; exact ih _ e) | (have q1 := b2i_n.mp c_46; rw [if_pos q1] at e; exact ih _ e)
      · rw [if_neg g] at e
        refine r_iload dX0_wishOf_21 rfl ?_
        refine r_bipush 8 dX0_wishOf_23 (by decide) ?_
        refine r_icmp_ge 67 dX0_wishOf_25 (by decide) (fun c_ => absurd c_ (geF hk (by decide))) (fun _ => ?_)
        refine r_iload_n dX0_wishOf_28 rfl ?_
        refine r_iconst (-1) dX0_wishOf_29 (by decide) ?_
        refine r_icmp_ne 67 dX0_wishOf_30 (by decide) (fun _ => ?_) (fun c_ => absurd c_ (g))
        exact hfin _ _ e
  · have e0 : wsG (fun k => brF sh ou n (nI k)) (lk l) 8 0 (brF sh ou n (ow l)) = brF sh ou n (ow l) := by
      rw [wsG_s, if_neg g0]
    refine r_iload dX0_wishOf_21 rfl ?_
    refine r_bipush 8 dX0_wishOf_23 (by decide) ?_
    refine r_icmp_ge 67 dX0_wishOf_25 (by decide) (fun c_ => absurd c_ (by decide)) (fun _ => ?_)
    refine r_iload_n dX0_wishOf_28 rfl ?_
    refine r_iconst (-1) dX0_wishOf_29 (by decide) ?_
    refine r_icmp_ne 67 dX0_wishOf_30 (by decide) (fun _ => ?_) (fun c_ => absurd c_ (g0))
    exact hfin _ _ e0
theorem pX0_isRing {l : Nat} {wN : Nat → Nat} {A : Nat → Prop} {h2 : List AC} (hn : n ≤ 8) (hA : ∀ j, A j → j < n ∧ wx j = nI (wN j) ∧ A (wN j)) (hl : A l) (hQ : Q (some (.int (b2i (rgG wN l n (wN l))))) (r0, (xC (.ref 2) iv tP tL tA tK tC tS tH tN tE tZ tf mP mf eP eT eF ef eg ew rx gx wx hv tp td rf rc ic), h2, r3)) : AMet mX0_isRing 1 0 0 [.ref 1, .int (nI l)] (r0, (xC (.ref 2) iv tP tL tA tK tC tS tH tN tE tZ tf mP mf eP eT eF ef eg ew rx gx wx hv tp td rf rc ic), h2, r3) Q := by
  refine AMet.ofRch rfl rfl (Nat.le_of_ble_eq_true rfl) ?_
  obtain ⟨hl1, hl2, hl3⟩ := hA l hl
  rw [← rg_8 hn (fun j hj => ⟨(hA j hj).1, (hA j hj).2.2⟩) (wN l) hl3] at hQ
  generalize hB : rgG wN l 8 (wN l) = B at hQ
  have hfin : ∀ (w : Nat) (x : Option Value), w < n → B = (w == l) → Rch (mX0_isRing, 1, 0, 0, oQ Q) 0 0 33 [some (.ref 1), some (.int (nI l)), some (.int (nI w)), x] [] (r0, (xC (.ref 2) iv tP tL tA tK tC tS tH tN tE tZ tf mP mf eP eT eF ef eg ew rx gx wx hv tp td rf rc ic), h2, r3) := by
    intro w x hw e
    rw [e] at hQ
    by_cases g : w = l
    · subst g
      refine r_iload_n dX0_isRing_33 rfl ?_
      refine r_iload_n dX0_isRing_34 rfl ?_
      refine r_icmp_ne 42 dX0_isRing_35 (by decide) (fun c_ => absurd (rfl) c_) (fun _ => ?_)
      refine r_iconst 1 dX0_isRing_38 (by decide) ?_
      refine r_goto 43 dX0_isRing_39 (by decide) ?_
      exact r_zret (ty := .boolean) dX0_isRing_43 rfl (rfl) (Nat.le_of_ble_eq_true rfl) (Nat.le_of_ble_eq_true rfl) (qi (by simp [b2i]) hQ)
    · refine r_iload_n dX0_isRing_33 rfl ?_
      refine r_iload_n dX0_isRing_34 rfl ?_
      refine r_icmp_ne 42 dX0_isRing_35 (by decide) (fun _ => ?_) (fun c_ => absurd c_ (fun z => g ((nI_eq (by omega) (by omega)).mp z)))
      refine r_iconst 0 dX0_isRing_42 (by decide) ?_
      exact r_zret (ty := .boolean) dX0_isRing_43 rfl (rfl) (Nat.le_of_ble_eq_true rfl) (Nat.le_of_ble_eq_true rfl) (qi (by simp [b2i, g]) hQ)
  refine r_aload_n dX0_isRing_0 rfl ?_
  refine r_get bX0 7 (by decide) q253 dX0_isRing_1 rfl rfl ?_
  refine r_iload_n dX0_isRing_4 rfl ?_
  refine r_ialdN dX0_isRing_5 rfl (by omega) (Nat.le_of_ble_eq_true rfl) ?_
  rw [hl2]
  refine r_istore_n dX0_isRing_6 (Nat.le_of_ble_eq_true rfl) ?_
  refine r_iconst 0 dX0_isRing_7 (by decide) ?_
  refine r_istore_n dX0_isRing_8 (Nat.le_of_ble_eq_true rfl) ?_
  refine loopUp (N := 8) (P := fun k => ∀ w, A w → B = rgG wN l (8 - k) w → Rch (mX0_isRing, 1, 0, 0, oQ Q) 0 0 9 [some (.ref 1), some (.int (nI l)), some (.int (nI w)), some (.int (nI k))] [] (r0, (xC (.ref 2) iv tP tL tA tK tC tS tH tN tE tZ tf mP mf eP eT eF ef eg ew rx gx wx hv tp td rf rc ic), h2, r3)) ?_ ?_ _ hl3 hB.symm
  · intro w hw e
    rw [Nat.sub_self, rgG] at e
    refine r_iload_n dX0_isRing_9 rfl ?_
    refine r_bipush 8 dX0_isRing_10 (by decide) ?_
    refine r_icmp_ge 33 dX0_isRing_12 (by decide) (fun _ => ?_) (fun c_ => absurd (geT 8) c_)
    exact hfin w _ (hA w hw).1 e
  · intro k hk ih w hw e
    obtain ⟨w1, w2, w3⟩ := hA w hw
    rw [show 8 - k = (8 - (k + 1)) + 1 by omega, rgG] at e
    by_cases g : w = l
    · rw [if_pos g] at e
      refine r_iload_n dX0_isRing_9 rfl ?_
      refine r_bipush 8 dX0_isRing_10 (by decide) ?_
      refine r_icmp_ge 33 dX0_isRing_12 (by decide) (fun c_ => absurd c_ (geF hk (by decide))) (fun _ => ?_)
      refine r_iload_n dX0_isRing_15 rfl ?_
      refine r_iload_n dX0_isRing_16 rfl ?_
      refine r_icmp_eq 33 dX0_isRing_17 (by decide) (fun _ => ?_) (fun c_ => absurd (by rw [g]) c_)
      exact hfin w _ w1 (by rw [e]; simp [g])
    · rw [if_neg g] at e
      refine r_iload_n dX0_isRing_9 rfl ?_
      refine r_bipush 8 dX0_isRing_10 (by decide) ?_
      refine r_icmp_ge 33 dX0_isRing_12 (by decide) (fun c_ => absurd c_ (geF hk (by decide))) (fun _ => ?_)
      refine r_iload_n dX0_isRing_15 rfl ?_
      refine r_iload_n dX0_isRing_16 rfl ?_
      refine r_icmp_eq 33 dX0_isRing_17 (by decide) (fun c_ => absurd c_ (fun z => g ((nI_eq (by omega) (by omega)).mp z))) (fun _ => ?_)
      refine r_aload_n dX0_isRing_20 rfl ?_
      refine r_get bX0 7 (by decide) q253 dX0_isRing_21 rfl rfl ?_
      refine r_iload_n dX0_isRing_24 rfl ?_
      refine r_ialdN dX0_isRing_25 rfl (by omega) (Nat.le_of_ble_eq_true rfl) ?_
      rw [w2]
      refine r_istore_n dX0_isRing_26 (Nat.le_of_ble_eq_true rfl) ?_
      refine r_iincV dX0_isRing_27 rfl (Nat.le_of_ble_eq_true rfl) (incN _) ?_
      refine r_goto 9 dX0_isRing_30 (by decide) ?_
      exact ih _ w3 e
theorem pX0_swaps (hn : n ≤ 8) (hL : LkI lc r3 nl kN ow n) (hQ : ∀ gx wx : Nat → Int32, (∀ j, j < n → gx j = (swI sh ow lk n n (sw0 sh ou ge n)).2 j) → Q none (r0, (xC (.ref 2) iv tP tL tA tK tC tS tH tN tE tZ tf mP mf eP eT eF ef eg ew rx (gx) (wx) hv tp td rf rc ic), (wC th pf nl ag lk co sh hs (nI n) ev se lc), r3)) : AMet mX0_swaps 4 0 0 [.ref 1] (r0, (xC (.ref 2) iv tP tL tA tK tC tS tH tN tE tZ tf mP mf eP eT eF ef eg ew rx gx wx hv tp td rf rc ic), (wC th pf nl ag lk co sh hs (nI n) ev se lc), r3) Q := by
  refine AMet.ofRch rfl rfl (Nat.le_of_ble_eq_true rfl) ?_
  generalize hF : swI sh ow lk n n (sw0 sh ou ge n) = Fin at hQ
  have main : ∀ (m : Nat) (S : SW), inC n S.1 = m → ∀ q, m ≤ q → swI sh ow lk n q S = Fin → ∀ (gx wx : Nat → Int32) (x y : Option Value), (∀ j, j < n → gx j = S.2 j) → Rch (mX0_swaps, 4, 0, 0, oQ Q) 0 0 51 [some (.ref 1), some (.int (bitsI (fun l => S.1 l == 0) n)), x, y] [] (r0, (xC (.ref 2) iv tP tL tA tK tC tS tH tN tE tZ tf mP mf eP eT eF ef eg ew rx (gx) (wx) hv tp td rf rc ic), (wC th pf nl ag lk co sh hs (nI n) ev se lc), r3) := by
    intro m
    induction m using Nat.strongRecOn with
    | ind m ih =>
    intro S hm q hq hs1 gx wx x y hg
    by_cases m0 : m = 0
    · subst m0
      rw [swI_id hm] at hs1
      subst hs1
      have z0 : bitsI (fun l => S.1 l == 0) n = 0 := (bits_0 (by omega)).mpr hm
      refine r_iload_n dX0_swaps_51 rfl ?_
      refine r_if_eq 170 dX0_swaps_52 (by decide) (fun _ => ?_) (fun c_ => absurd (z0) c_)
      exact r_vret dX0_swaps_170 rfl (Nat.le_of_ble_eq_true rfl) (Nat.le_of_ble_eq_true rfl) (hQ _ _ hg)
    · have z0 : ¬ bitsI (fun l => S.1 l == 0) n = 0 := fun z => m0 (hm.symm.trans ((bits_0 (by omega)).mp z))
      have hbl : ∀ k, k < n → hasB (bitsI (fun l => S.1 l == 0) n) (nI k) = (S.1 k == 0) := fun k hk => bits_has n (by omega) hk
      refine r_iload_n dX0_swaps_51 rfl ?_
      refine r_if_eq 170 dX0_swaps_52 (by decide) (fun c_ => absurd c_ (z0)) (fun _ => ?_)
      refine r_iconst 0 dX0_swaps_55 (by decide) ?_
      refine r_istore_n dX0_swaps_56 (Nat.le_of_ble_eq_true rfl) ?_
      refine r_iconst 0 dX0_swaps_57 (by decide) ?_
      refine r_istore_n dX0_swaps_58 (Nat.le_of_ble_eq_true rfl) ?_
      refine eqP (P := fun z => Rch (mX0_swaps, 4, 0, 0, oQ Q) 0 0 59 [some (.ref 1), some (.int (bitsI (fun l => S.1 l == 0) n)), some (.int 0), some (.int (nI 0))] [] (r0, (xC (.ref 2) iv tP tL tA tK tC tS tH tN tE tZ tf mP mf eP eT eF ef eg ew rx (gx) (z) hv tp td rf rc ic), (wC th pf nl ag lk co sh hs (nI n) ev se lc), r3)) (fill_0 (fun l => if S.1 l = 0 then wiF sh S.1 ow lk n l else -1) wx) ?_
      refine loopUp (N := n) (P := fun k => Rch (mX0_swaps, 4, 0, 0, oQ Q) 0 0 59 [some (.ref 1), some (.int (bitsI (fun l => S.1 l == 0) n)), some (.int 0), some (.int (nI k))] [] (r0, (xC (.ref 2) iv tP tL tA tK tC tS tH tN tE tZ tf mP mf eP eT eF ef eg ew rx (gx) (fillF (fun l => if S.1 l = 0 then wiF sh S.1 ow lk n l else -1) wx k) hv tp td rf rc ic), (wC th pf nl ag lk co sh hs (nI n) ev se lc), r3)) ?_ ?_
      · have hW : ∀ j, j < n ∧ S.1 j = 0 → fillF (fun l => if S.1 l = 0 then wiF sh S.1 ow lk n l else -1) wx n j = nI (wiN sh S.1 ow lk n j) := by
          intro j hj
          rw [fill_in hj.1, if_pos hj.2]
          exact (wiN_P hn hj).2
        refine r_iload_n dX0_swaps_59 rfl ?_
        refine r_aload_n dX0_swaps_60 rfl ?_
        refine r_get bX0 0 (by decide) q246 dX0_swaps_61 rfl rfl ?_
        refine r_get bX1 7 (by decide) q179 dX0_swaps_64 rfl rfl ?_
        refine r_icmp_ge 100 dX0_swaps_67 (by decide) (fun _ => ?_) (fun c_ => absurd (Int32.le_refl _) c_)
        refine r_iconst 0 dX0_swaps_100 (by decide) ?_
        refine r_istore_n dX0_swaps_101 (Nat.le_of_ble_eq_true rfl) ?_
        generalize fillF (fun l => if S.1 l = 0 then wiF sh S.1 ow lk n l else -1) wx n = W at hW ⊢
        refine loopUp (N := n) (P := fun k => ∀ gx : Nat → Int32, (∀ j, j < n → gx j = geR (rgB sh S.1 ow lk n) (fun l => sh (wiN sh S.1 ow lk n l)) S.2 k j) → Rch (mX0_swaps, 4, 0, 0, oQ Q) 0 0 102 [some (.ref 1), some (.int (bitsI (fun l => S.1 l == 0) n)), some (.int (bitsI (rgB sh S.1 ow lk n) k)), some (.int (nI k))] [] (r0, (xC (.ref 2) iv tP tL tA tK tC tS tH tN tE tZ tf mP mf eP eT eF ef eg ew rx (gx) (W) hv tp td rf rc ic), (wC th pf nl ag lk co sh hs (nI n) ev se lc), r3)) ?_ ?_ gx (fun j hj => by rw [geR_0]; exact hg j hj)
        · intro gx hg2
          have hle := swR_less (sh := sh) (ow := ow) (lk := lk) (S := S) hn (by omega)
          have ebits : bitsI (fun l => S.1 l == 0) n &&& (bitsI (rgB sh S.1 ow lk n) n ^^^ -1) = bitsI (fun l => (swR sh ow lk n S).1 l == 0) n := by
            rw [bits_anot (by omega)]
            refine bits_congr n (fun l hl => ?_)
            show (S.1 l == 0 && !rgB sh S.1 ow lk n l) = (geR (rgB sh S.1 ow lk n) (fun _ => 1) S.1 n l == 0)
            simp only [geR]
            by_cases g : rgB sh S.1 ow lk n l = true
            · rw [if_pos ⟨hl, g⟩, g, Bool.not_true, Bool.and_false]
              rfl
            · rw [if_neg (fun z => g z.2)]
              have g2 : rgB sh S.1 ow lk n l = false := by simpa using g
              rw [g2, Bool.not_false, Bool.and_true]
          match q, hq, hs1 with
          | 0, hq, _ => exact absurd hq (by omega)
          | q + 1, hq, hs1 =>
            refine r_iload_n dX0_swaps_102 rfl ?_
            refine r_aload_n dX0_swaps_103 rfl ?_
            refine r_get bX0 0 (by decide) q246 dX0_swaps_104 rfl rfl ?_
            refine r_get bX1 7 (by decide) q179 dX0_swaps_107 rfl rfl ?_
            refine r_icmp_ge 161 dX0_swaps_110 (by decide) (fun _ => ?_) (fun c_ => absurd (Int32.le_refl _) c_)
            refine r_iload_n dX0_swaps_161 rfl ?_
            refine r_iload_n dX0_swaps_162 rfl ?_
            refine r_iconst (-1) dX0_swaps_163 (by decide) ?_
            refine r_ixor dX0_swaps_164 ?_
            refine r_iand dX0_swaps_165 ?_
            rw [ebits]
            refine r_istore_n dX0_swaps_166 (Nat.le_of_ble_eq_true rfl) ?_
            refine r_goto 51 dX0_swaps_167 (by decide) ?_
            exact ih _ (by omega) (swR sh ow lk n S) rfl q (by omega) hs1 gx W _ _ hg2
        · intro k hk ih2 gx hg2
          simp only [bitsI] at ih2
          by_cases g : S.1 k = 0
          · have g1 : hasB (bitsI (fun l => S.1 l == 0) n) (nI k) = true := by rw [hbl k hk, g]; rfl
            have eR : rgB sh S.1 ow lk n k = rgG (wiN sh S.1 ow lk n) k n (wiN sh S.1 ow lk n k) := by simp [rgB, g]
            have hW2 := hW k ⟨hk, g⟩
            have hwn := (wiN_P (sh := sh) (ow := ow) (lk := lk) hn ⟨hk, g⟩).1.1
            by_cases gr : rgB sh S.1 ow lk n k = true
            · rw [if_pos gr] at ih2
              rw [← geR_t (F := fun l => sh (wiN sh S.1 ow lk n l)) gr] at ih2
              refine r_iload_n dX0_swaps_102 rfl ?_
              refine r_aload_n dX0_swaps_103 rfl ?_
              refine r_get bX0 0 (by decide) q246 dX0_swaps_104 rfl rfl ?_
              refine r_get bX1 7 (by decide) q179 dX0_swaps_107 rfl rfl ?_
              refine r_icmp_ge 161 dX0_swaps_110 (by decide) (fun c_ => absurd c_ (geF hk (by omega))) (fun _ => ?_)
              refine r_iload_n dX0_swaps_113 rfl ?_
              refine r_iload_n dX0_swaps_114 rfl ?_
              refine r_callS (as := [_, _]) okX0_has q974 dX0_swaps_115 (Nat.le_of_ble_eq_true rfl) rfl (Nat.le_of_ble_eq_true rfl) (Nat.le_of_ble_eq_true rfl) (Nat.le_of_ble_eq_true rfl) (pX0_has ?_)
              refine r_if_eq 155 dX0_swaps_118 (by decide) (fun c_ => absurd c_ (b2i_n.mpr g1)) (fun _ => ?_)
              refine r_aload_n dX0_swaps_121 rfl ?_
              refine r_iload_n dX0_swaps_122 rfl ?_
              refine r_callV (as := [_]) okX0_isRing bX0 rfl rfl q1429 dX0_swaps_123 (Nat.le_of_ble_eq_true rfl) rfl (Nat.le_of_ble_eq_true rfl) (Nat.le_of_ble_eq_true rfl) (Nat.le_of_ble_eq_true rfl) (pX0_isRing (wN := wiN sh S.1 ow lk n) (A := fun j => j < n ∧ S.1 j = 0) hn (fun j hj => ⟨hj.1, hW j hj, (wiN_P hn hj).1⟩) ⟨hk, g⟩ ?_)
              refine r_if_eq 155 dX0_swaps_126 (by decide) (fun c_ => absurd c_ (b2i_n.mpr (eR.symm.trans gr))) (fun _ => ?_)
              refine r_aload_n dX0_swaps_129 rfl ?_
              refine r_get bX0 6 (by decide) q252 dX0_swaps_130 rfl rfl ?_
              refine r_iload_n dX0_swaps_133 rfl ?_
              refine r_aload_n dX0_swaps_134 rfl ?_
              refine r_get bX0 0 (by decide) q246 dX0_swaps_135 rfl rfl ?_
              refine r_get bX1 5 (by decide) q174 dX0_swaps_138 rfl rfl ?_
              refine r_aload_n dX0_swaps_141 rfl ?_
              refine r_get bX0 7 (by decide) q253 dX0_swaps_142 rfl rfl ?_
              refine r_iload_n dX0_swaps_145 rfl ?_
              refine r_ialdN dX0_swaps_146 rfl (by omega) (Nat.le_of_ble_eq_true rfl) ?_
              rw [hW2]
              refine r_ialdN dX0_swaps_147 rfl (by omega) (Nat.le_of_ble_eq_true rfl) ?_
              refine r_iastN dX0_swaps_148 rfl (by omega) (Nat.le_of_ble_eq_true rfl) ?_
              refine r_iload_n dX0_swaps_149 rfl ?_
              refine r_iconst 1 dX0_swaps_150 (by decide) ?_
              refine r_iload_n dX0_swaps_151 rfl ?_
              refine r_ishl dX0_swaps_152 ?_
              refine r_ior dX0_swaps_153 ?_
              refine r_istore_n dX0_swaps_154 (Nat.le_of_ble_eq_true rfl) ?_
              refine r_iincV dX0_swaps_155 rfl (Nat.le_of_ble_eq_true rfl) (incN _) ?_
              refine r_goto 102 dX0_swaps_158 (by decide) ?_
              refine ih2 _ (fun j hj => ?_)
              by_cases e : j = k
              · subst e
                rw [pk_us, pk_us]
              · rw [pk_un e, pk_un e]
                exact hg2 j hj
            · have gr2 : rgB sh S.1 ow lk n k = false := by simpa using gr
              rw [if_neg gr, or0, geR_f gr] at ih2
              refine r_iload_n dX0_swaps_102 rfl ?_
              refine r_aload_n dX0_swaps_103 rfl ?_
              refine r_get bX0 0 (by decide) q246 dX0_swaps_104 rfl rfl ?_
              refine r_get bX1 7 (by decide) q179 dX0_swaps_107 rfl rfl ?_
              refine r_icmp_ge 161 dX0_swaps_110 (by decide) (fun c_ => absurd c_ (geF hk (by omega))) (fun _ => ?_)
              refine r_iload_n dX0_swaps_113 rfl ?_
              refine r_iload_n dX0_swaps_114 rfl ?_
              refine r_callS (as := [_, _]) okX0_has q974 dX0_swaps_115 (Nat.le_of_ble_eq_true rfl) rfl (Nat.le_of_ble_eq_true rfl) (Nat.le_of_ble_eq_true rfl) (Nat.le_of_ble_eq_true rfl) (pX0_has ?_)
              refine r_if_eq 155 dX0_swaps_118 (by decide) (fun c_ => absurd c_ (b2i_n.mpr g1)) (fun _ => ?_)
              refine r_aload_n dX0_swaps_121 rfl ?_
              refine r_iload_n dX0_swaps_122 rfl ?_
              refine r_callV (as := [_]) okX0_isRing bX0 rfl rfl q1429 dX0_swaps_123 (Nat.le_of_ble_eq_true rfl) rfl (Nat.le_of_ble_eq_true rfl) (Nat.le_of_ble_eq_true rfl) (Nat.le_of_ble_eq_true rfl) (pX0_isRing (wN := wiN sh S.1 ow lk n) (A := fun j => j < n ∧ S.1 j = 0) hn (fun j hj => ⟨hj.1, hW j hj, (wiN_P hn hj).1⟩) ⟨hk, g⟩ ?_)
              refine r_if_eq 155 dX0_swaps_126 (by decide) (fun _ => ?_) (fun c_ => absurd (b2i_0.mpr (eR.symm.trans gr2)) c_)
              refine r_iincV dX0_swaps_155 rfl (Nat.le_of_ble_eq_true rfl) (incN _) ?_
              refine r_goto 102 dX0_swaps_158 (by decide) ?_
              exact ih2 _ hg2
          · have g1 : hasB (bitsI (fun l => S.1 l == 0) n) (nI k) = false := by rw [hbl k hk]; simp [g]
            have gr : ¬ rgB sh S.1 ow lk n k = true := by simp [rgB, g]
            rw [if_neg gr, or0, geR_f gr] at ih2
            refine r_iload_n dX0_swaps_102 rfl ?_
            refine r_aload_n dX0_swaps_103 rfl ?_
            refine r_get bX0 0 (by decide) q246 dX0_swaps_104 rfl rfl ?_
            refine r_get bX1 7 (by decide) q179 dX0_swaps_107 rfl rfl ?_
            refine r_icmp_ge 161 dX0_swaps_110 (by decide) (fun c_ => absurd c_ (geF hk (by omega))) (fun _ => ?_)
            refine r_iload_n dX0_swaps_113 rfl ?_
            refine r_iload_n dX0_swaps_114 rfl ?_
            refine r_callS (as := [_, _]) okX0_has q974 dX0_swaps_115 (Nat.le_of_ble_eq_true rfl) rfl (Nat.le_of_ble_eq_true rfl) (Nat.le_of_ble_eq_true rfl) (Nat.le_of_ble_eq_true rfl) (pX0_has ?_)
            refine r_if_eq 155 dX0_swaps_118 (by decide) (fun _ => ?_) (fun c_ => absurd (b2i_0.mpr g1) c_)
            refine r_iincV dX0_swaps_155 rfl (Nat.le_of_ble_eq_true rfl) (incN _) ?_
            refine r_goto 102 dX0_swaps_158 (by decide) ?_
            exact ih2 _ hg2
      · intro k hk ih2
        rw [← fill_up] at ih2
        by_cases g : S.1 k = 0
        · have g1 : hasB (bitsI (fun l => S.1 l == 0) n) (nI k) = true := by rw [hbl k hk, g]; rfl
          rw [if_pos g] at ih2
          refine r_iload_n dX0_swaps_59 rfl ?_
          refine r_aload_n dX0_swaps_60 rfl ?_
          refine r_get bX0 0 (by decide) q246 dX0_swaps_61 rfl rfl ?_
          refine r_get bX1 7 (by decide) q179 dX0_swaps_64 rfl rfl ?_
          refine r_icmp_ge 100 dX0_swaps_67 (by decide) (fun c_ => absurd c_ (geF hk (by omega))) (fun _ => ?_)
          refine r_aload_n dX0_swaps_70 rfl ?_
          refine r_get bX0 7 (by decide) q253 dX0_swaps_71 rfl rfl ?_
          refine r_iload_n dX0_swaps_74 rfl ?_
          refine r_iload_n dX0_swaps_75 rfl ?_
          refine r_iload_n dX0_swaps_76 rfl ?_
          refine r_callS (as := [_, _]) okX0_has q974 dX0_swaps_77 (Nat.le_of_ble_eq_true rfl) rfl (Nat.le_of_ble_eq_true rfl) (Nat.le_of_ble_eq_true rfl) (Nat.le_of_ble_eq_true rfl) (pX0_has ?_)
          refine r_if_eq 92 dX0_swaps_80 (by decide) (fun c_ => absurd c_ (b2i_n.mpr g1)) (fun _ => ?_)
          refine r_aload_n dX0_swaps_83 rfl ?_
          refine r_iload_n dX0_swaps_84 rfl ?_
          refine r_iload_n dX0_swaps_85 rfl ?_
          refine r_callV (as := [_, _]) okX0_wishOf bX0 rfl rfl q1421 dX0_swaps_86 (Nat.le_of_ble_eq_true rfl) rfl (Nat.le_of_ble_eq_true rfl) (Nat.le_of_ble_eq_true rfl) (Nat.le_of_ble_eq_true rfl) (pX0_wishOf hn hL hk ?_)
          refine r_goto 93 dX0_swaps_89 (by decide) ?_
          refine r_iastN dX0_swaps_93 rfl (by omega) (Nat.le_of_ble_eq_true rfl) ?_
          refine r_iincV dX0_swaps_94 rfl (Nat.le_of_ble_eq_true rfl) (incN _) ?_
          refine r_goto 59 dX0_swaps_97 (by decide) ?_
          exact ih2
        · have g1 : hasB (bitsI (fun l => S.1 l == 0) n) (nI k) = false := by rw [hbl k hk]; simp [g]
          rw [if_neg g] at ih2
          refine r_iload_n dX0_swaps_59 rfl ?_
          refine r_aload_n dX0_swaps_60 rfl ?_
          refine r_get bX0 0 (by decide) q246 dX0_swaps_61 rfl rfl ?_
          refine r_get bX1 7 (by decide) q179 dX0_swaps_64 rfl rfl ?_
          refine r_icmp_ge 100 dX0_swaps_67 (by decide) (fun c_ => absurd c_ (geF hk (by omega))) (fun _ => ?_)
          refine r_aload_n dX0_swaps_70 rfl ?_
          refine r_get bX0 7 (by decide) q253 dX0_swaps_71 rfl rfl ?_
          refine r_iload_n dX0_swaps_74 rfl ?_
          refine r_iload_n dX0_swaps_75 rfl ?_
          refine r_iload_n dX0_swaps_76 rfl ?_
          refine r_callS (as := [_, _]) okX0_has q974 dX0_swaps_77 (Nat.le_of_ble_eq_true rfl) rfl (Nat.le_of_ble_eq_true rfl) (Nat.le_of_ble_eq_true rfl) (Nat.le_of_ble_eq_true rfl) (pX0_has ?_)
          refine r_if_eq 92 dX0_swaps_80 (by decide) (fun _ => ?_) (fun c_ => absurd (b2i_0.mpr g1) c_)
          refine r_iconst (-1) dX0_swaps_92 (by decide) ?_
          refine r_iastN dX0_swaps_93 rfl (by omega) (Nat.le_of_ble_eq_true rfl) ?_
          refine r_iincV dX0_swaps_94 rfl (Nat.le_of_ble_eq_true rfl) (incN _) ?_
          refine r_goto 59 dX0_swaps_97 (by decide) ?_
          exact ih2
  refine r_iconst 0 dX0_swaps_0 (by decide) ?_
  refine r_istore_n dX0_swaps_1 (Nat.le_of_ble_eq_true rfl) ?_
  refine r_iconst 0 dX0_swaps_2 (by decide) ?_
  refine r_istore_n dX0_swaps_3 (Nat.le_of_ble_eq_true rfl) ?_
  refine eqP (P := fun z => Rch (mX0_swaps, 4, 0, 0, oQ Q) 0 0 4 [some (.ref 1), some (.int (bitsI (fun l => sh l != -1) 0)), some (.int (nI 0)), none] [] (r0, (xC (.ref 2) iv tP tL tA tK tC tS tH tN tE tZ tf mP mf eP eT eF ef eg ew rx (z) wx hv tp td rf rc ic), (wC th pf nl ag lk co sh hs (nI n) ev se lc), r3)) (fill_0 (fun _ => -1) gx) ?_
  refine loopUp (N := n) (P := fun k => Rch (mX0_swaps, 4, 0, 0, oQ Q) 0 0 4 [some (.ref 1), some (.int (bitsI (fun l => sh l != -1) k)), some (.int (nI k)), none] [] (r0, (xC (.ref 2) iv tP tL tA tK tC tS tH tN tE tZ tf mP mf eP eT eF ef eg ew rx (fillF (fun _ => -1) gx k) wx hv tp td rf rc ic), (wC th pf nl ag lk co sh hs (nI n) ev se lc), r3)) ?_ ?_
  · have e1 : bitsI (fun l => sh l != -1) n = bitsI (fun l => (sw0 sh ou ge n).1 l == 0) n := bits_congr n (fun l hl => by
      show (sh l != -1) = (fillF (oF sh) ou n l == 0)
      rw [fill_in hl]
      by_cases g : sh l = -1
      · simp [oF, g]
      · simp [oF, g])
    rw [e1]
    refine r_iload_n dX0_swaps_4 rfl ?_
    refine r_aload_n dX0_swaps_5 rfl ?_
    refine r_get bX0 0 (by decide) q246 dX0_swaps_6 rfl rfl ?_
    refine r_get bX1 7 (by decide) q179 dX0_swaps_9 rfl rfl ?_
    refine r_icmp_ge 51 dX0_swaps_12 (by decide) (fun _ => ?_) (fun c_ => absurd (Int32.le_refl _) c_)
    refine main _ (sw0 sh ou ge n) rfl n (cntI_le _ n) hF _ wx _ _ (fun j hj => ?_)
    show fillF (fun _ => -1) gx n j = fillF (fun _ => -1) ge n j
    rw [fill_in hj, fill_in hj]
  · intro k hk ih
    rw [← fill_up] at ih
    simp only [bitsI] at ih
    by_cases g : sh k = -1
    · rw [if_neg (by simp [g])] at ih
      refine r_iload_n dX0_swaps_4 rfl ?_
      refine r_aload_n dX0_swaps_5 rfl ?_
      refine r_get bX0 0 (by decide) q246 dX0_swaps_6 rfl rfl ?_
      refine r_get bX1 7 (by decide) q179 dX0_swaps_9 rfl rfl ?_
      refine r_icmp_ge 51 dX0_swaps_12 (by decide) (fun c_ => absurd c_ (geF hk (by omega))) (fun _ => ?_)
      refine r_aload_n dX0_swaps_15 rfl ?_
      refine r_get bX0 6 (by decide) q252 dX0_swaps_16 rfl rfl ?_
      refine r_iload_n dX0_swaps_19 rfl ?_
      refine r_iconst (-1) dX0_swaps_20 (by decide) ?_
      refine r_iastN dX0_swaps_21 rfl (by omega) (Nat.le_of_ble_eq_true rfl) ?_
      refine r_iload_n dX0_swaps_22 rfl ?_
      refine r_aload_n dX0_swaps_23 rfl ?_
      refine r_get bX0 0 (by decide) q246 dX0_swaps_24 rfl rfl ?_
      refine r_get bX1 5 (by decide) q174 dX0_swaps_27 rfl rfl ?_
      refine r_iload_n dX0_swaps_30 rfl ?_
      refine r_ialdN dX0_swaps_31 rfl (by omega) (Nat.le_of_ble_eq_true rfl) ?_
      refine r_iconst (-1) dX0_swaps_32 (by decide) ?_
      refine r_icmp_eq 42 dX0_swaps_33 (by decide) (fun _ => ?_) (fun c_ => absurd (g) c_)
      refine r_iconst 0 dX0_swaps_42 (by decide) ?_
      refine r_ior dX0_swaps_43 ?_
      refine r_istore_n dX0_swaps_44 (Nat.le_of_ble_eq_true rfl) ?_
      refine r_iincV dX0_swaps_45 rfl (Nat.le_of_ble_eq_true rfl) (incN _) ?_
      refine r_goto 4 dX0_swaps_48 (by decide) ?_
      exact ih
    · rw [if_pos (by simp [g])] at ih
      refine r_iload_n dX0_swaps_4 rfl ?_
      refine r_aload_n dX0_swaps_5 rfl ?_
      refine r_get bX0 0 (by decide) q246 dX0_swaps_6 rfl rfl ?_
      refine r_get bX1 7 (by decide) q179 dX0_swaps_9 rfl rfl ?_
      refine r_icmp_ge 51 dX0_swaps_12 (by decide) (fun c_ => absurd c_ (geF hk (by omega))) (fun _ => ?_)
      refine r_aload_n dX0_swaps_15 rfl ?_
      refine r_get bX0 6 (by decide) q252 dX0_swaps_16 rfl rfl ?_
      refine r_iload_n dX0_swaps_19 rfl ?_
      refine r_iconst (-1) dX0_swaps_20 (by decide) ?_
      refine r_iastN dX0_swaps_21 rfl (by omega) (Nat.le_of_ble_eq_true rfl) ?_
      refine r_iload_n dX0_swaps_22 rfl ?_
      refine r_aload_n dX0_swaps_23 rfl ?_
      refine r_get bX0 0 (by decide) q246 dX0_swaps_24 rfl rfl ?_
      refine r_get bX1 5 (by decide) q174 dX0_swaps_27 rfl rfl ?_
      refine r_iload_n dX0_swaps_30 rfl ?_
      refine r_ialdN dX0_swaps_31 rfl (by omega) (Nat.le_of_ble_eq_true rfl) ?_
      refine r_iconst (-1) dX0_swaps_32 (by decide) ?_
      refine r_icmp_eq 42 dX0_swaps_33 (by decide) (fun c_ => absurd c_ (g)) (fun _ => ?_)
      refine r_iconst 1 dX0_swaps_36 (by decide) ?_
      refine r_iload_n dX0_swaps_37 rfl ?_
      refine r_ishl dX0_swaps_38 ?_
      refine r_goto 43 dX0_swaps_39 (by decide) ?_
      refine r_ior dX0_swaps_43 ?_
      refine r_istore_n dX0_swaps_44 (Nat.le_of_ble_eq_true rfl) ?_
      refine r_iincV dX0_swaps_45 rfl (Nat.le_of_ble_eq_true rfl) (incN _) ?_
      refine r_goto 4 dX0_swaps_48 (by decide) ?_
      exact ih
theorem pX0_manySwapped {F : Nat → Int32} (hn : n ≤ 8) (hg : ∀ j, j < n → gx j = F j) (hQ : Q (some (.int (nI (cntI (fun l => F l != sh l) n)))) (r0, (xC (.ref 2) iv tP tL tA tK tC tS tH tN tE tZ tf mP mf eP eT eF ef eg ew rx gx wx hv tp td rf rc ic), (wC th pf nl ag lk co sh hs (nI n) ev se lc), r3)) : AMet mX0_manySwapped 1 0 0 [.ref 1] (r0, (xC (.ref 2) iv tP tL tA tK tC tS tH tN tE tZ tf mP mf eP eT eF ef eg ew rx gx wx hv tp td rf rc ic), (wC th pf nl ag lk co sh hs (nI n) ev se lc), r3) Q := by
  refine AMet.ofRch rfl rfl (Nat.le_of_ble_eq_true rfl) ?_
  refine r_iconst 0 dX0_manySwapped_0 (by decide) ?_
  refine r_istore_n dX0_manySwapped_1 (Nat.le_of_ble_eq_true rfl) ?_
  refine r_iconst 0 dX0_manySwapped_2 (by decide) ?_
  refine r_istore_n dX0_manySwapped_3 (Nat.le_of_ble_eq_true rfl) ?_
  refine loopUp (N := n) (P := fun k => Rch (mX0_manySwapped, 1, 0, 0, oQ Q) 0 0 4 [some (.ref 1), some (.int (nI (cntI (fun l => F l != sh l) k))), some (.int (nI k))] [] (r0, (xC (.ref 2) iv tP tL tA tK tC tS tH tN tE tZ tf mP mf eP eT eF ef eg ew rx gx wx hv tp td rf rc ic), (wC th pf nl ag lk co sh hs (nI n) ev se lc), r3)) ?_ ?_
  · refine r_iload_n dX0_manySwapped_4 rfl ?_
    refine r_aload_n dX0_manySwapped_5 rfl ?_
    refine r_get bX0 0 (by decide) q246 dX0_manySwapped_6 rfl rfl ?_
    refine r_get bX1 7 (by decide) q179 dX0_manySwapped_9 rfl rfl ?_
    refine r_icmp_ge 47 dX0_manySwapped_12 (by decide) (fun _ => ?_) (fun c_ => absurd (Int32.le_refl _) c_)
    refine r_iload_n dX0_manySwapped_47 rfl ?_
    exact r_iret dX0_manySwapped_48 rfl (Nat.le_of_ble_eq_true rfl) (Nat.le_of_ble_eq_true rfl) (hQ)
  · intro k hk ih
    have hk2 := hg k hk
    refine r_iload_n dX0_manySwapped_4 rfl ?_
    refine r_aload_n dX0_manySwapped_5 rfl ?_
    refine r_get bX0 0 (by decide) q246 dX0_manySwapped_6 rfl rfl ?_
    refine r_get bX1 7 (by decide) q179 dX0_manySwapped_9 rfl rfl ?_
    refine r_icmp_ge 47 dX0_manySwapped_12 (by decide) (fun c_ => absurd c_ (geF hk (by omega))) (fun _ => ?_)
    refine r_iload_n dX0_manySwapped_15 rfl ?_
    refine r_aload_n dX0_manySwapped_16 rfl ?_
    refine r_get bX0 6 (by decide) q252 dX0_manySwapped_17 rfl rfl ?_
    refine r_iload_n dX0_manySwapped_20 rfl ?_
    refine r_ialdN dX0_manySwapped_21 rfl (by omega) (Nat.le_of_ble_eq_true rfl) ?_
    rw [hk2]
    refine r_aload_n dX0_manySwapped_22 rfl ?_
    refine r_get bX0 0 (by decide) q246 dX0_manySwapped_23 rfl rfl ?_
    refine r_get bX1 5 (by decide) q174 dX0_manySwapped_26 rfl rfl ?_
    refine r_iload_n dX0_manySwapped_29 rfl ?_
    refine r_ialdN dX0_manySwapped_30 rfl (by omega) (Nat.le_of_ble_eq_true rfl) ?_
    refine r_icmp_eq 38 dX0_manySwapped_31 (by decide) (fun c_31 => ?_) (fun c_31 => ?_)
    · refine r_iconst 0 dX0_manySwapped_38 (by decide) ?_
      refine r_iadd dX0_manySwapped_39 ?_
      first | rw [nI_1] | rw [Int32.add_zero]
      refine r_istore_n dX0_manySwapped_40 (Nat.le_of_ble_eq_true rfl) ?_
      refine r_iincV dX0_manySwapped_41 rfl (Nat.le_of_ble_eq_true rfl) (incN _) ?_
      refine r_goto 4 dX0_manySwapped_44 (by decide) ?_
      first | (have q1 : (F k != sh k) = true := (by simpa using c_31); simp only [cntI, q1, if_true] at ih; exact ih) | (have q1 : (F k != sh k) = false := (by simpa using c_31); simp only [cntI, q1, Bool.false_eq_true, if_false, Nat.add_zero] at ih; exact ih)
    · refine r_iconst 1 dX0_manySwapped_34 (by decide) ?_
      refine r_goto 39 dX0_manySwapped_35 (by decide) ?_
      refine r_iadd dX0_manySwapped_39 ?_
      first | rw [nI_1] | rw [Int32.add_zero]
      refine r_istore_n dX0_manySwapped_40 (Nat.le_of_ble_eq_true rfl) ?_
      refine r_iincV dX0_manySwapped_41 rfl (Nat.le_of_ble_eq_true rfl) (incN _) ?_
      refine r_goto 4 dX0_manySwapped_44 (by decide) ?_
      first | (have q1 : (F k != sh k) = true := (by simpa using c_31); simp only [cntI, q1, if_true] at ih; exact ih) | (have q1 : (F k != sh k) = false := (by simpa using c_31); simp only [cntI, q1, Bool.false_eq_true, if_false, Nat.add_zero] at ih; exact ih)
theorem pX0_next {l : Int32} (hn : n ≤ 8) (hL : LkI lc r3 nl kN ow n) (hbad : inB l 0 (nI n - 1) = false → Q (some (.int (-2))) (r0, (xC (.ref 2) iv tP tL tA tK tC tS tH tN tE tZ tf mP mf eP eT eF ef eg ew rx gx wx hv tp td (upd rf 2 (rf 2 + 1)) rc ic), (wC th pf nl ag lk co sh hs (nI n) ev se lc), r3)) (hok : ∀ j, j < n → l = nI j → ∀ gx wx : Nat → Int32, Q (some (.int ((swI sh ow lk n n (sw0 sh ou ge n)).2 j))) (r0, (xC (.ref 2) iv tP tL tA tK tC tS tH tN tE tZ tf mP mf eP eT eF ef eg ew rx (gx) (wx) hv tp td rf rc ic), (wC th pf nl ag lk co sh hs (nI n) ev se lc), r3)) : AMet mX0_next 5 0 0 [.ref 1, .int l] (r0, (xC (.ref 2) iv tP tL tA tK tC tS tH tN tE tZ tf mP mf eP eT eF ef eg ew rx gx wx hv tp td rf rc ic), (wC th pf nl ag lk co sh hs (nI n) ev se lc), r3) Q := by
  refine AMet.ofRch rfl rfl (Nat.le_of_ble_eq_true rfl) ?_
  refine r_aload_n dX0_next_0 rfl ?_
  refine r_get bX0 0 (by decide) q246 dX0_next_1 rfl rfl ?_
  refine r_iload_n dX0_next_4 rfl ?_
  refine r_callV (as := [_]) okX1_isLooker bX1 rfl rfl q519 dX0_next_5 (Nat.le_of_ble_eq_true rfl) rfl (Nat.le_of_ble_eq_true rfl) (Nat.le_of_ble_eq_true rfl) (Nat.le_of_ble_eq_true rfl) (pX1_isLooker rfl ?_)
  refine r_if_ne 18 dX0_next_8 (by decide) (fun c_8 => ?_) (fun c_8 => ?_)
  · obtain ⟨j, hj, rfl⟩ := inB_m (b2i_n.mp c_8) (by omega)
    refine r_aload_n dX0_next_18 rfl ?_
    refine r_callV (as := []) okX0_swaps bX0 rfl rfl q1417 dX0_next_19 (Nat.le_of_ble_eq_true rfl) rfl (Nat.le_of_ble_eq_true rfl) (Nat.le_of_ble_eq_true rfl) (Nat.le_of_ble_eq_true rfl) (pX0_swaps (ou := ou) (ge := ge) hn hL (fun gx2 wx2 hg => ?_))
    refine r_aload_n dX0_next_22 rfl ?_
    refine r_get bX0 6 (by decide) q252 dX0_next_23 rfl rfl ?_
    refine r_iload_n dX0_next_26 rfl ?_
    refine r_ialdN dX0_next_27 rfl (by omega) (Nat.le_of_ble_eq_true rfl) ?_
    exact r_iret dX0_next_28 rfl (Nat.le_of_ble_eq_true rfl) (Nat.le_of_ble_eq_true rfl) (qi (hg j hj) (hok j hj rfl _ _))
  · refine r_aload_n dX0_next_11 rfl ?_
    refine r_bipush (-2) dX0_next_12 (by decide) ?_
    refine r_callV (as := [_]) okX0_no bX0 rfl rfl q381 dX0_next_14 (Nat.le_of_ble_eq_true rfl) rfl (Nat.le_of_ble_eq_true rfl) (Nat.le_of_ble_eq_true rfl) (Nat.le_of_ble_eq_true rfl) (pX0_no 2 (by decide) (by decide) ?_)
    exact r_iret dX0_next_17 rfl (Nat.le_of_ble_eq_true rfl) (Nat.le_of_ble_eq_true rfl) (hbad (b2i_0.mp c_8))
theorem pX0_swapped (hn : n ≤ 8) (hL : LkI lc r3 nl kN ow n) (hQ : ∀ gx wx : Nat → Int32, Q (some (.int (nI (cntI (fun l => (swI sh ow lk n n (sw0 sh ou ge n)).2 l != sh l) n)))) (r0, (xC (.ref 2) iv tP tL tA tK tC tS tH tN tE tZ tf mP mf eP eT eF ef eg ew rx (gx) (wx) hv tp td rf rc ic), (wC th pf nl ag lk co sh hs (nI n) ev se lc), r3)) : AMet mX0_swapped 5 0 0 [.ref 1] (r0, (xC (.ref 2) iv tP tL tA tK tC tS tH tN tE tZ tf mP mf eP eT eF ef eg ew rx gx wx hv tp td rf rc ic), (wC th pf nl ag lk co sh hs (nI n) ev se lc), r3) Q := by
  refine AMet.ofRch rfl rfl (Nat.le_of_ble_eq_true rfl) ?_
  refine r_aload_n dX0_swapped_0 rfl ?_
  refine r_callV (as := []) okX0_swaps bX0 rfl rfl q1417 dX0_swapped_1 (Nat.le_of_ble_eq_true rfl) rfl (Nat.le_of_ble_eq_true rfl) (Nat.le_of_ble_eq_true rfl) (Nat.le_of_ble_eq_true rfl) (pX0_swaps (ou := ou) (ge := ge) hn hL (fun gx2 wx2 hg => ?_))
  refine r_aload_n dX0_swapped_4 rfl ?_
  refine r_callV (as := []) okX0_manySwapped bX0 rfl rfl q1437 dX0_swapped_5 (Nat.le_of_ble_eq_true rfl) rfl (Nat.le_of_ble_eq_true rfl) (Nat.le_of_ble_eq_true rfl) (Nat.le_of_ble_eq_true rfl) (pX0_manySwapped hn hg ?_)
  exact r_iret dX0_swapped_8 rfl (Nat.le_of_ble_eq_true rfl) (Nat.le_of_ble_eq_true rfl) (hQ _ _)
end XX
