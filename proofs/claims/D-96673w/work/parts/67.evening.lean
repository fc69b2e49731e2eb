set_option maxRecDepth 100000
/-! the component: evenings in thought -/
theorem gl_or {b : Prop} [Decidable b] {x y : Int32} : (if b then x ||| y else x) ||| y = x ||| y := by
  split
  · rw [Int32.or_assoc, Int32.or_self]
  · rfl
theorem rs_0 (th : Nat → Int32) : RsI th (th, fun _ => 0, fun _ => -1) := by
  intro l
  refine ⟨fun q _ => Or.inl rfl, fun q hq z => ?_, fun z => absurd rfl z⟩
  have z2 : hasB 0 (nI q) = true := z
  rw [has_0 hq] at z2
  cases z2
theorem cpy_in {α : Type} {f g : Nat → α} {n j : Nat} (h : j < n) : va_cpy f g 0 0 n j = f j := by
  unfold va_cpy
  rw [if_pos ⟨Nat.zero_le _, by omega⟩]
  congr 1
  omega
theorem pX2_becomes {h : AHp} {a s b t : Nat} {f g : Int32} {P R : Nat → Int32} {Q : Option Value → AHp → Prop} (ha : aGet h a = some (.inr (2, [.ref s, .int f]))) (hs : aGet h s = some (.inl (.int, 12, .inl P))) (hb : aGet h b = some (.inr (2, [.ref t, .int g]))) (ht : aGet h t = some (.inl (.int, 12, .inl R))) (hQ : Q (some (.ref a)) (aSet h s (.inl (.int, 12, .inl R)))) : AMet mX2_becomes 1 0 0 [.ref a, .ref b] h Q := by
  refine AMet.ofRch rfl rfl (Nat.le_of_ble_eq_true rfl) ?_
  refine r_aload_n dX2_becomes_0 rfl ?_
  refine r_get bX2 0 (by decide) q142 dX2_becomes_1 hb rfl ?_
  refine r_iconst 0 dX2_becomes_4 (by decide) ?_
  refine r_aload_n dX2_becomes_5 rfl ?_
  refine r_get bX2 0 (by decide) q142 dX2_becomes_6 ha rfl ?_
  refine r_iconst 0 dX2_becomes_9 (by decide) ?_
  refine r_bipush 12 dX2_becomes_10 (by decide) ?_
  refine r_copyi (ty := .int) 0 rfl rfl q559 dX2_becomes_12 ht hs (by decide) (by decide) (by decide) (by decide) (by decide) (fun _ _ => rfl) (Nat.le_of_ble_eq_true rfl) ?_
  refine r_norm (a := s) (n := 12) R (aGet_same hs) (fun j hj => cpy_in hj) ?_
  rw [aSet_2]
  refine r_aload_n dX2_becomes_15 rfl ?_
  exact r_aret dX2_becomes_16 rfl (by first | exact Or.inl ⟨_, rfl⟩ | exact Or.inr ⟨_, rfl⟩) (Nat.le_of_ble_eq_true rfl) (Nat.le_of_ble_eq_true rfl) (hQ)
section XX
variable {iv : Value} {tP : Nat → Int32} {tL : Nat → Option Nat} {tA tK tC tS tH : Nat → Int32} {tN tE tZ tf : Int32} {mP : Nat → Int32} {mf : Int32} {eP eT eF : Nat → Int32} {ef eg : Int32} {ew : Value} {rx gx wx : Nat → Int32} {hv : Nat → Value} {tp : Nat → Int32} {td : Int32} {rf : Nat → Int32} {rc ic : Nat → AC}
variable {th : Nat → Int32} {pf : Int32} {nl : Nat → Option Nat} {ag lk co sh hs : Nat → Int32} {my ev se : Int32} {lc : Nat → AC}
variable {r0 r3 : List AC} {Q : Option Value → AHp → Prop} {n : Nat} {kN : Nat → Nat} {ow : Nat → Int32}
theorem pX3_looks_n {x : Nat} {S : RS} (hn : n ≤ 8) (hx : x < n) (hL : LkI lc r3 nl kN ow n) (h0 : S.2.1 x = 0) (h1 : S.2.2 x = -1) (hS : ThI S.1) (hQ : ∀ ef', Q none (r0, (xC (.ref 2) iv tP tL tA tK tC tS tH tN tE tZ tf mP mf ((stR kN ow lk x S).1) ((stR kN ow lk x S).2.1) ((stR kN ow lk x S).2.2) (ef') (if gladB th ((stR kN ow lk x S).2.1 x) (ow x) = true then eg ||| (1 <<< (nI x &&& 31)) else eg) (.ref 2) rx gx wx hv tp td rf rc ic), (wC th pf nl ag lk co sh hs (nI n) ev se lc), r3)) : AMet mX3_looks 7 0 0 [.ref 97, .int (nI x), .ref 10] (r0, (xC (.ref 2) iv tP tL tA tK tC tS tH tN tE tZ tf mP mf (S.1) (S.2.1) (S.2.2) (ef) (eg) (.ref 2) rx gx wx hv tp td rf rc ic), (wC th pf nl ag lk co sh hs (nI n) ev se lc), r3) Q := by
  refine AMet.ofRch rfl rfl (Nat.le_of_ble_eq_true rfl) ?_
  obtain ⟨k6, w, la, hw, ew, enl, hla, hcell⟩ := hL.at hx
  have eg0 : goF (kN x) (ow x) (lk x) (S.1, S.2.1 x, S.2.2 x) = goF (kN x) (nI w) (lk x) (S.1, 0, -1) := by rw [ew, h0, h1]
  have hQ : ∀ ef', Q none (r0, (xC (.ref 2) iv tP tL tA tK tC tS tH tN tE tZ tf mP mf ((goF (kN x) (nI w) (lk x) (S.1, 0, -1)).1) (upd S.2.1 x (goF (kN x) (nI w) (lk x) (S.1, 0, -1)).2.1) (upd S.2.2 x (goF (kN x) (nI w) (lk x) (S.1, 0, -1)).2.2) (ef') (if gladB th (goF (kN x) (nI w) (lk x) (S.1, 0, -1)).2.1 (nI w) = true then eg ||| (1 <<< (nI x &&& 31)) else eg) (.ref 2) rx gx wx hv tp td rf rc ic), (wC th pf nl ag lk co sh hs (nI n) ev se lc), r3) := by
    intro ef'
    have h2 := hQ ef'
    simp only [stR, pk_us] at h2
    rw [eg0, ew] at h2
    exact h2
  refine r_aload_n dX3_looks_0 rfl ?_
  refine r_get bX3 0 (by decide) q215 dX3_looks_1 rfl rfl ?_
  refine r_iconst (-1) dX3_looks_4 (by decide) ?_
  refine r_put bX2 1 (by decide) rfl q147 dX3_looks_5 rfl rfl rfl (Nat.le_of_ble_eq_true rfl) ?_
  refine r_aload_n dX3_looks_8 rfl ?_
  refine r_get bX3 1 (by decide) q217 dX3_looks_9 rfl rfl ?_
  refine r_iload_n dX3_looks_12 rfl ?_
  refine r_aload_n dX3_looks_13 rfl ?_
  refine r_get bX3 3 (by decide) q221 dX3_looks_14 rfl rfl ?_
  refine r_get bX1 1 (by decide) q162 dX3_looks_17 rfl rfl ?_
  refine r_iload_n dX3_looks_20 rfl ?_
  refine r_aald_looker dX3_looks_21 rfl (vp_in_nI (by omega) (by omega)) ?_
  rw [nI_clamp (by omega), enl]
  refine r_aload_n dX3_looks_22 rfl ?_
  refine r_get bX3 0 (by decide) q215 dX3_looks_23 rfl rfl ?_
  refine r_aload_n dX3_looks_26 rfl ?_
  refine r_get bX3 3 (by decide) q221 dX3_looks_27 rfl rfl ?_
  refine r_iload_n dX3_looks_30 rfl ?_
  refine r_callV (as := [_]) okX1_liked bX1 rfl rfl q572 dX3_looks_31 (Nat.le_of_ble_eq_true rfl) rfl (Nat.le_of_ble_eq_true rfl) (Nat.le_of_ble_eq_true rfl) (Nat.le_of_ble_eq_true rfl) (pX1_liked (w := nI w) (c := kN x) (by omega) rfl rfl rfl enl k6 (hcell _ _ _ _ _ _ _ _ _ _ _ _ _) ?_)
  refine r_takes (k := kN x) (w := w) (nu := nI x) (lk := lk x) (P := S.1) (s := 113) k6 hw (by omega) (by omega) (hcell _ _ _ _ _ _ _ _ _ _ _ _ _) rfl rfl (by decide) hS q576 dX3_looks_34 (Nat.le_of_ble_eq_true rfl) (Nat.le_of_ble_eq_true rfl) (Nat.le_of_ble_eq_true rfl) (Nat.le_of_ble_eq_true rfl) ?_
  generalize goF (kN x) (nI w) (lk x) (S.1, 0, -1) = E at hQ ⊢
  refine r_iastN dX3_looks_37 rfl (by omega) (Nat.le_of_ble_eq_true rfl) ?_
  refine r_aload_n dX3_looks_38 rfl ?_
  refine r_get bX3 2 (by decide) q219 dX3_looks_39 rfl rfl ?_
  refine r_iload_n dX3_looks_42 rfl ?_
  refine r_aload_n dX3_looks_43 rfl ?_
  refine r_get bX3 0 (by decide) q215 dX3_looks_44 rfl rfl ?_
  refine r_get bX2 1 (by decide) q147 dX3_looks_47 rfl rfl ?_
  refine r_iastN dX3_looks_50 rfl (by omega) (Nat.le_of_ble_eq_true rfl) ?_
  refine r_iconst 0 dX3_looks_51 (by decide) ?_
  refine r_istore_n dX3_looks_52 (Nat.le_of_ble_eq_true rfl) ?_
  refine eqP (P := fun z => Rch (mX3_looks, 7, 0, 0, oQ Q) 0 0 53 [some (.ref 97), some (.int (nI x)), some (.ref 10), some (.int (nI 0))] [] (r0, (xC (.ref 2) iv tP tL tA tK tC tS tH tN tE tZ tf mP mf (E.1) (upd S.2.1 x E.2.1) (upd S.2.2 x E.2.2) (E.2.2) (z) (.ref 2) rx gx wx hv tp td rf rc ic), (wC th pf nl ag lk co sh hs (nI n) ev se lc), r3)) (show (if anyB (fun p => hasB E.2.1 (nI p) && th p == nI w) 0 = true then eg ||| (1 <<< (nI x &&& 31)) else eg) = eg from rfl) ?_
  refine loopUp (N := 12) (P := fun k => Rch (mX3_looks, 7, 0, 0, oQ Q) 0 0 53 [some (.ref 97), some (.int (nI x)), some (.ref 10), some (.int (nI k))] [] (r0, (xC (.ref 2) iv tP tL tA tK tC tS tH tN tE tZ tf mP mf (E.1) (upd S.2.1 x E.2.1) (upd S.2.2 x E.2.2) (E.2.2) (if anyB (fun p => hasB E.2.1 (nI p) && th p == nI w) k = true then eg ||| (1 <<< (nI x &&& 31)) else eg) (.ref 2) rx gx wx hv tp td rf rc ic), (wC th pf nl ag lk co sh hs (nI n) ev se lc), r3)) ?_ ?_
  · refine r_iload_n dX3_looks_53 rfl ?_
    refine r_bipush 12 dX3_looks_54 (by decide) ?_
    refine r_icmp_ge 111 dX3_looks_56 (by decide) (fun _ => ?_) (fun c_ => absurd (geT 12) c_)
    exact r_vret dX3_looks_111 rfl (Nat.le_of_ble_eq_true rfl) (Nat.le_of_ble_eq_true rfl) (by have h2 := hQ E.2.2; unfold gladB at h2; rw [← any_fst] at h2; exact h2)
  · intro k hk ih
    refine r_iload_n dX3_looks_53 rfl ?_
    refine r_bipush 12 dX3_looks_54 (by decide) ?_
    refine r_icmp_ge 111 dX3_looks_56 (by decide) (fun c_ => absurd c_ (geF hk (by decide))) (fun _ => ?_)
    refine r_aload_n dX3_looks_59 rfl ?_
    refine r_get bX3 1 (by decide) q217 dX3_looks_60 rfl rfl ?_
    refine r_iload_n dX3_looks_63 rfl ?_
    refine r_ialdN dX3_looks_64 rfl (by omega) (Nat.le_of_ble_eq_true rfl) ?_
    rw [pk_us]
    refine r_iload_n dX3_looks_65 rfl ?_
    refine r_callSN (host := "SeenInOrderOfAge") (as := [_, _]) okX0_has (List.mem_of_getElem? (i := 8) rfl) dX3_looks_66 (Nat.le_of_ble_eq_true rfl) rfl (Nat.le_of_ble_eq_true rfl) (Nat.le_of_ble_eq_true rfl) (Nat.le_of_ble_eq_true rfl) (pX0_has ?_)
    refine r_if_eq 105 dX3_looks_69 (by decide) (fun c_69 => ?_) (fun c_69 => ?_)
    · refine r_iincV dX3_looks_105 rfl (Nat.le_of_ble_eq_true rfl) (incN _) ?_
      refine r_goto 53 dX3_looks_108 (by decide) ?_
      first | (have q1 := b2i_0.mp c_69; simp only [anyB, q1, Bool.false_and, Bool.or_false] at ih; exact ih) | (have q1 := b2i_n.mp c_69; have q2 : (th k == nI w) = true := (by simpa using c_90); simp only [anyB, q1, q2, Bool.and_self, Bool.or_true, if_true] at ih; rw [gl_or]; exact ih) | (have q1 := b2i_n.mp c_69; have q2 : (th k == nI w) = false := (by simpa using c_90); simp only [anyB, q1, q2, Bool.and_false, Bool.or_false] at ih; exact ih)
    · refine r_aload_n dX3_looks_72 rfl ?_
      refine r_get bX2 0 (by decide) q144 dX3_looks_73 rfl rfl ?_
      refine r_iload_n dX3_looks_76 rfl ?_
      refine r_ialdN dX3_looks_77 rfl (by omega) (Nat.le_of_ble_eq_true rfl) ?_
      refine r_aload_n dX3_looks_78 rfl ?_
      refine r_get bX3 3 (by decide) q221 dX3_looks_79 rfl rfl ?_
      refine r_get bX1 1 (by decide) q162 dX3_looks_82 rfl rfl ?_
      refine r_iload_n dX3_looks_85 rfl ?_
      refine r_aald_looker dX3_looks_86 rfl (vp_in_nI (by omega) (by omega)) ?_
      rw [nI_clamp (by omega), enl]
      refine r_lkA q678 dX3_looks_87 k6 (hcell _ _ _ _ _ _ _ _ _ _ _ _ _) ?_
      refine r_icmp_ne 105 dX3_looks_90 (by decide) (fun c_90 => ?_) (fun c_90 => ?_)
      · refine r_iincV dX3_looks_105 rfl (Nat.le_of_ble_eq_true rfl) (incN _) ?_
        refine r_goto 53 dX3_looks_108 (by decide) ?_
        first | (have q1 := b2i_0.mp c_69; simp only [anyB, q1, Bool.false_and, Bool.or_false] at ih; exact ih) | (have q1 := b2i_n.mp c_69; have q2 : (th k == nI w) = true := (by simpa using c_90); simp only [anyB, q1, q2, Bool.and_self, Bool.or_true, if_true] at ih; rw [gl_or]; exact ih) | (have q1 := b2i_n.mp c_69; have q2 : (th k == nI w) = false := (by simpa using c_90); simp only [anyB, q1, q2, Bool.and_false, Bool.or_false] at ih; exact ih)
      · refine r_aload_n dX3_looks_93 rfl ?_
        refine r_dup dX3_looks_94 rfl ?_
        refine r_get bX3 4 (by decide) q222 dX3_looks_95 rfl rfl ?_
        refine r_iconst 1 dX3_looks_98 (by decide) ?_
        refine r_iload_n dX3_looks_99 rfl ?_
        refine r_ishl dX3_looks_100 ?_
        refine r_ior dX3_looks_101 ?_
        refine r_put bX3 4 (by decide) rfl q222 dX3_looks_102 rfl rfl rfl (Nat.le_of_ble_eq_true rfl) ?_
        refine r_iincV dX3_looks_105 rfl (Nat.le_of_ble_eq_true rfl) (incN _) ?_
        refine r_goto 53 dX3_looks_108 (by decide) ?_
        first | (have q1 := b2i_0.mp c_69; simp only [anyB, q1, Bool.false_and, Bool.or_false] at ih; exact ih) | (have q1 := b2i_n.mp c_69; have q2 : (th k == nI w) = true := (by simpa using c_90); simp only [anyB, q1, q2, Bool.and_self, Bool.or_true, if_true] at ih; rw [gl_or]; exact ih) | (have q1 := b2i_n.mp c_69; have q2 : (th k == nI w) = false := (by simpa using c_90); simp only [anyB, q1, q2, Bool.and_false, Bool.or_false] at ih; exact ih)
theorem pX3_from_n {set : Int32} (hn : n ≤ 8) (hL : LkI lc r3 nl kN ow n) (hP : ThI th) (hQ : ∀ ef', Q (some (.ref 97)) (r0, (xC (.ref 2) iv tP tL tA tK tC tS tH tN tE tZ tf mP mf ((evR kN ow lk ag n th set).1) ((evR kN ow lk ag n th set).2.1) ((evR kN ow lk ag n th set).2.2) (ef') (bitsI (fun l => hasB set (nI l) && gladB th ((evR kN ow lk ag n th set).2.1 l) (ow l)) n) (.ref 2) rx gx wx hv tp td rf rc ic), (wC th pf nl ag lk co sh hs (nI n) ev se lc), r3)) : AMet mX3_from 8 0 0 [.ref 97, .ref 2, .ref 10, .int set] (r0, (xC (.ref 2) iv tP tL tA tK tC tS tH tN tE tZ tf mP mf eP eT eF ef eg ew rx gx wx hv tp td rf rc ic), (wC th pf nl ag lk co sh hs (nI n) ev se lc), r3) Q := by
  refine AMet.ofRch rfl rfl (Nat.le_of_ble_eq_true rfl) ?_
  refine r_aload_n dX3_from_0 rfl ?_
  refine r_aload_n dX3_from_1 rfl ?_
  refine r_put bX3 3 (by decide) rfl q221 dX3_from_2 rfl rfl rfl (Nat.le_of_ble_eq_true rfl) ?_
  refine r_aload_n dX3_from_5 rfl ?_
  refine r_get bX3 0 (by decide) q215 dX3_from_6 rfl rfl ?_
  refine r_aload_n dX3_from_9 rfl ?_
  refine r_callV (as := [_]) okX2_becomes bX2 rfl rfl q555 dX3_from_10 (Nat.le_of_ble_eq_true rfl) rfl (Nat.le_of_ble_eq_true rfl) (Nat.le_of_ble_eq_true rfl) (Nat.le_of_ble_eq_true rfl) (pX2_becomes (a := 105) (s := 113) (b := 10) rfl rfl rfl rfl ?_)
  refine r_pop dX3_from_13 rfl ?_
  refine r_aload_n dX3_from_14 rfl ?_
  refine r_iconst 0 dX3_from_15 (by decide) ?_
  refine r_put bX3 4 (by decide) rfl q222 dX3_from_16 rfl rfl rfl (Nat.le_of_ble_eq_true rfl) ?_
  refine r_aload_n dX3_from_19 rfl ?_
  refine r_get bX3 1 (by decide) q217 dX3_from_20 rfl rfl ?_
  refine r_iconst 0 dX3_from_23 (by decide) ?_
  refine r_callS (as := [_, _]) okJ0_fill q560 dX3_from_24 (Nat.le_of_ble_eq_true rfl) rfl (Nat.le_of_ble_eq_true rfl) (Nat.le_of_ble_eq_true rfl) (Nat.le_of_ble_eq_true rfl) (pJ0_fill (a := 121) rfl (by decide) ?_)
  refine r_aload_n dX3_from_27 rfl ?_
  refine r_get bX3 2 (by decide) q219 dX3_from_28 rfl rfl ?_
  refine r_iconst (-1) dX3_from_31 (by decide) ?_
  refine r_callS (as := [_, _]) okJ0_fill q560 dX3_from_32 (Nat.le_of_ble_eq_true rfl) rfl (Nat.le_of_ble_eq_true rfl) (Nat.le_of_ble_eq_true rfl) (Nat.le_of_ble_eq_true rfl) (pJ0_fill (a := 129) rfl (by decide) ?_)
  refine r_iload_n dX3_from_35 rfl ?_
  refine r_istore dX3_from_36 (Nat.le_of_ble_eq_true rfl) ?_
  refine r_aload_n dX3_from_38 rfl ?_
  refine r_get bX3 3 (by decide) q221 dX3_from_39 rfl rfl ?_
  refine r_iload dX3_from_42 rfl ?_
  refine r_callV (as := [_]) okX1_next bX1 rfl rfl q561 dX3_from_44 (Nat.le_of_ble_eq_true rfl) rfl (Nat.le_of_ble_eq_true rfl) (Nat.le_of_ble_eq_true rfl) (Nat.le_of_ble_eq_true rfl) (pX1_next hn rfl rfl ?_)
  refine r_istore dX3_from_47 (Nat.le_of_ble_eq_true rfl) ?_
  have main : ∀ (L : List Nat) (lf : Int32) (S : RS) (g ef : Int32), ordL ag lf n = L → (∀ x, x ∈ L → S.2.1 x = 0 ∧ S.2.2 x = -1) → RsI th S → (∀ ef', Q (some (.ref 97)) (r0, (xC (.ref 2) iv tP tL tA tK tC tS tH tN tE tZ tf mP mf ((runS kN ow lk L S).1) ((runS kN ow lk L S).2.1) ((runS kN ow lk L S).2.2) (ef') (glR th kN ow lk L S g) (.ref 2) rx gx wx hv tp td rf rc ic), (wC th pf nl ag lk co sh hs (nI n) ev se lc), r3)) → Rch (mX3_from, 8, 0, 0, oQ Q) 0 0 49 [some (.ref 97), some (.ref 2), some (.ref 10), some (.int set), some (.int lf), some (.int (hdO L))] [] (r0, (xC (.ref 2) iv tP tL tA tK tC tS tH tN tE tZ tf mP mf (S.1) (S.2.1) (S.2.2) (ef) (g) (.ref 2) rx gx wx hv tp td rf rc ic), (wC th pf nl ag lk co sh hs (nI n) ev se lc), r3) := by
    intro L
    induction L with
    | nil =>
      intro lf S g ef hL2 h2 h3 hq
      refine r_iload dX3_from_49 rfl ?_
      refine r_iconst (-1) dX3_from_51 (by decide) ?_
      refine r_icmp_eq 87 dX3_from_52 (by decide) (fun _ => ?_) (fun c_ => absurd (rfl) c_)
      refine r_aload_n dX3_from_87 rfl ?_
      exact r_aret dX3_from_88 rfl (by first | exact Or.inl ⟨_, rfl⟩ | exact Or.inr ⟨_, rfl⟩) (Nat.le_of_ble_eq_true rfl) (Nat.le_of_ble_eq_true rfl) (hq ef)
    | cons x xs ih =>
      intro lf S g ef hL2 h2 h3 hq
      have hx : x < n := ordL_lt ag lf n x (by rw [hL2]; exact List.mem_cons_self)
      have hnd := ordL_nodup ag lf n
      rw [hL2] at hnd
      have hnd := List.nodup_cons.mp hnd
      have e2 : ordL ag (lf &&& ((1 <<< (hdO (x :: xs) &&& 31)) ^^^ -1)) n = xs := ordL_tail n x xs (by omega) hL2
      have hS : ThI S.1 := by
        intro q hq2
        rcases (h3 0).1 q hq2 with e | e
        · have e : S.1 q = th q := e
          rw [e]; exact hP q hq2
        · exact Or.inl e
      have how : ow x ≠ -1 := by
        obtain ⟨-, ⟨w, hw, ew⟩, -⟩ := hL x hx
        rw [ew]; exact nI_m1 (by omega)
      refine r_iload dX3_from_49 rfl ?_
      refine r_iconst (-1) dX3_from_51 (by decide) ?_
      refine r_icmp_eq 87 dX3_from_52 (by decide) (fun c_ => absurd c_ (nI_m1 (by omega))) (fun _ => ?_)
      refine r_aload_n dX3_from_55 rfl ?_
      refine r_iload dX3_from_56 rfl ?_
      refine r_aload_n dX3_from_58 rfl ?_
      refine r_callV (as := [_, _]) okX3_looks bX3 rfl rfl q568 dX3_from_59 (Nat.le_of_ble_eq_true rfl) rfl (Nat.le_of_ble_eq_true rfl) (Nat.le_of_ble_eq_true rfl) (Nat.le_of_ble_eq_true rfl) (pX3_looks_n (x := x) (S := S) hn hx hL (h2 x List.mem_cons_self).1 (h2 x List.mem_cons_self).2 hS (fun ef2 => ?_))
      refine r_iload dX3_from_62 rfl ?_
      refine r_iconst 1 dX3_from_64 (by decide) ?_
      refine r_iload dX3_from_65 rfl ?_
      refine r_ishl dX3_from_67 ?_
      refine r_iconst (-1) dX3_from_68 (by decide) ?_
      refine r_ixor dX3_from_69 ?_
      refine r_iand dX3_from_70 ?_
      refine r_istore dX3_from_71 (Nat.le_of_ble_eq_true rfl) ?_
      refine r_aload_n dX3_from_73 rfl ?_
      refine r_get bX3 3 (by decide) q221 dX3_from_74 rfl rfl ?_
      refine r_iload dX3_from_77 rfl ?_
      refine r_callV (as := [_]) okX1_next bX1 rfl rfl q561 dX3_from_79 (Nat.le_of_ble_eq_true rfl) rfl (Nat.le_of_ble_eq_true rfl) (Nat.le_of_ble_eq_true rfl) (Nat.le_of_ble_eq_true rfl) (pX1_next hn rfl rfl ?_)
      rw [e2]
      refine r_istore dX3_from_82 (Nat.le_of_ble_eq_true rfl) ?_
      refine r_goto 49 dX3_from_84 (by decide) ?_
      refine ih _ _ _ _ e2 (fun y hy => ?_) (st_RsI how h3) hq
      have hne : y ≠ x := fun e => hnd.1 (e ▸ hy)
      have h4 := h2 y (List.mem_cons_of_mem _ hy)
      refine ⟨?_, ?_⟩
      · show upd S.2.1 x _ y = 0
        rw [pk_un hne]; exact h4.1
      · show upd S.2.2 x _ y = -1
        rw [pk_un hne]; exact h4.2
  refine main (ordL ag set n) set (th, fun _ => 0, fun _ => -1) 0 ef rfl (fun _ _ => ⟨rfl, rfl⟩) (rs_0 _) (fun ef2 => ?_)
  rw [gl_ev]
  exact hQ ef2
theorem pX3_of_n {set : Int32} (hn : n ≤ 8) (hL : LkI lc r3 nl kN ow n) (hP : ThI th) (hQ : ∀ ef', Q (some (.ref 97)) (r0, (xC (.ref 2) iv tP tL tA tK tC tS tH tN tE tZ tf mP mf ((evR kN ow lk ag n th set).1) ((evR kN ow lk ag n th set).2.1) ((evR kN ow lk ag n th set).2.2) (ef') (bitsI (fun l => hasB set (nI l) && gladB th ((evR kN ow lk ag n th set).2.1 l) (ow l)) n) (.ref 2) rx gx wx hv tp td rf rc ic), (wC th pf nl ag lk co sh hs (nI n) ev se lc), r3)) : AMet mX3_of 9 0 0 [.ref 97, .ref 2, .int set] (r0, (xC (.ref 2) iv tP tL tA tK tC tS tH tN tE tZ tf mP mf eP eT eF ef eg ew rx gx wx hv tp td rf rc ic), (wC th pf nl ag lk co sh hs (nI n) ev se lc), r3) Q := by
  refine AMet.ofRch rfl rfl (Nat.le_of_ble_eq_true rfl) ?_
  refine r_aload_n dX3_of_0 rfl ?_
  refine r_aload_n dX3_of_1 rfl ?_
  refine r_aload_n dX3_of_2 rfl ?_
  refine r_get bX1 0 (by decide) q158 dX3_of_3 rfl rfl ?_
  refine r_iload_n dX3_of_6 rfl ?_
  refine r_callV (as := [_, _, _]) okX3_from bX3 rfl rfl q551 dX3_of_7 (Nat.le_of_ble_eq_true rfl) rfl (Nat.le_of_ble_eq_true rfl) (Nat.le_of_ble_eq_true rfl) (Nat.le_of_ble_eq_true rfl) (pX3_from_n hn hL hP (fun ef2 => ?_))
  exact r_aret dX3_of_10 rfl (by first | exact Or.inl ⟨_, rfl⟩ | exact Or.inr ⟨_, rfl⟩) (Nat.le_of_ble_eq_true rfl) (Nat.le_of_ble_eq_true rfl) (hQ ef2)
theorem pX3_looks_t {x : Nat} {S : RS} (hn : n ≤ 8) (hx : x < n) (hL : LkI lc r3 tL kN ow n) (h0 : S.2.1 x = 0) (h1 : S.2.2 x = -1) (hS : ThI S.1) (hQ : ∀ ef', Q none (r0, (xC (.ref 2) iv tP tL tA tK tC tS tH (nI n) tE tZ tf mP mf ((stR kN ow tK x S).1) ((stR kN ow tK x S).2.1) ((stR kN ow tK x S).2.2) (ef') (if gladB tP ((stR kN ow tK x S).2.1 x) (ow x) = true then eg ||| (1 <<< (nI x &&& 31)) else eg) (.ref 9) rx gx wx hv tp td rf rc ic), (wC th pf nl ag lk co sh hs my ev se lc), r3)) : AMet mX3_looks 7 0 0 [.ref 97, .int (nI x), .ref 17] (r0, (xC (.ref 2) iv tP tL tA tK tC tS tH (nI n) tE tZ tf mP mf (S.1) (S.2.1) (S.2.2) (ef) (eg) (.ref 9) rx gx wx hv tp td rf rc ic), (wC th pf nl ag lk co sh hs my ev se lc), r3) Q := by
  refine AMet.ofRch rfl rfl (Nat.le_of_ble_eq_true rfl) ?_
  obtain ⟨k6, w, la, hw, ew, enl, hla, hcell⟩ := hL.at hx
  have eg0 : goF (kN x) (ow x) (tK x) (S.1, S.2.1 x, S.2.2 x) = goF (kN x) (nI w) (tK x) (S.1, 0, -1) := by rw [ew, h0, h1]
  have hQ : ∀ ef', Q none (r0, (xC (.ref 2) iv tP tL tA tK tC tS tH (nI n) tE tZ tf mP mf ((goF (kN x) (nI w) (tK x) (S.1, 0, -1)).1) (upd S.2.1 x (goF (kN x) (nI w) (tK x) (S.1, 0, -1)).2.1) (upd S.2.2 x (goF (kN x) (nI w) (tK x) (S.1, 0, -1)).2.2) (ef') (if gladB tP (goF (kN x) (nI w) (tK x) (S.1, 0, -1)).2.1 (nI w) = true then eg ||| (1 <<< (nI x &&& 31)) else eg) (.ref 9) rx gx wx hv tp td rf rc ic), (wC th pf nl ag lk co sh hs my ev se lc), r3) := by
    intro ef'
    have h2 := hQ ef'
    simp only [stR, pk_us] at h2
    rw [eg0, ew] at h2
    exact h2
  refine r_aload_n dX3_looks_0 rfl ?_
  refine r_get bX3 0 (by decide) q215 dX3_looks_1 rfl rfl ?_
  refine r_iconst (-1) dX3_looks_4 (by decide) ?_
  refine r_put bX2 1 (by decide) rfl q147 dX3_looks_5 rfl rfl rfl (Nat.le_of_ble_eq_true rfl) ?_
  refine r_aload_n dX3_looks_8 rfl ?_
  refine r_get bX3 1 (by decide) q217 dX3_looks_9 rfl rfl ?_
  refine r_iload_n dX3_looks_12 rfl ?_
  refine r_aload_n dX3_looks_13 rfl ?_
  refine r_get bX3 3 (by decide) q221 dX3_looks_14 rfl rfl ?_
  refine r_get bX1 1 (by decide) q162 dX3_looks_17 rfl rfl ?_
  refine r_iload_n dX3_looks_20 rfl ?_
  refine r_aald_looker dX3_looks_21 rfl (vp_in_nI (by omega) (by omega)) ?_
  rw [nI_clamp (by omega), enl]
  refine r_aload_n dX3_looks_22 rfl ?_
  refine r_get bX3 0 (by decide) q215 dX3_looks_23 rfl rfl ?_
  refine r_aload_n dX3_looks_26 rfl ?_
  refine r_get bX3 3 (by decide) q221 dX3_looks_27 rfl rfl ?_
  refine r_iload_n dX3_looks_30 rfl ?_
  refine r_callV (as := [_]) okX1_liked bX1 rfl rfl q572 dX3_looks_31 (Nat.le_of_ble_eq_true rfl) rfl (Nat.le_of_ble_eq_true rfl) (Nat.le_of_ble_eq_true rfl) (Nat.le_of_ble_eq_true rfl) (pX1_liked (w := nI w) (c := kN x) (by omega) rfl rfl rfl enl k6 (hcell _ _ _ _ _ _ _ _ _ _ _ _ _) ?_)
  refine r_takes (k := kN x) (w := w) (nu := nI x) (lk := tK x) (P := S.1) (s := 113) k6 hw (by omega) (by omega) (hcell _ _ _ _ _ _ _ _ _ _ _ _ _) rfl rfl (by decide) hS q576 dX3_looks_34 (Nat.le_of_ble_eq_true rfl) (Nat.le_of_ble_eq_true rfl) (Nat.le_of_ble_eq_true rfl) (Nat.le_of_ble_eq_true rfl) ?_
  generalize goF (kN x) (nI w) (tK x) (S.1, 0, -1) = E at hQ ⊢
  refine r_iastN dX3_looks_37 rfl (by omega) (Nat.le_of_ble_eq_true rfl) ?_
  refine r_aload_n dX3_looks_38 rfl ?_
  refine r_get bX3 2 (by decide) q219 dX3_looks_39 rfl rfl ?_
  refine r_iload_n dX3_looks_42 rfl ?_
  refine r_aload_n dX3_looks_43 rfl ?_
  refine r_get bX3 0 (by decide) q215 dX3_looks_44 rfl rfl ?_
  refine r_get bX2 1 (by decide) q147 dX3_looks_47 rfl rfl ?_
  refine r_iastN dX3_looks_50 rfl (by omega) (Nat.le_of_ble_eq_true rfl) ?_
  refine r_iconst 0 dX3_looks_51 (by decide) ?_
  refine r_istore_n dX3_looks_52 (Nat.le_of_ble_eq_true rfl) ?_
  refine eqP (P := fun z => Rch (mX3_looks, 7, 0, 0, oQ Q) 0 0 53 [some (.ref 97), some (.int (nI x)), some (.ref 17), some (.int (nI 0))] [] (r0, (xC (.ref 2) iv tP tL tA tK tC tS tH (nI n) tE tZ tf mP mf (E.1) (upd S.2.1 x E.2.1) (upd S.2.2 x E.2.2) (E.2.2) (z) (.ref 9) rx gx wx hv tp td rf rc ic), (wC th pf nl ag lk co sh hs my ev se lc), r3)) (show (if anyB (fun p => hasB E.2.1 (nI p) && tP p == nI w) 0 = true then eg ||| (1 <<< (nI x &&& 31)) else eg) = eg from rfl) ?_
  refine loopUp (N := 12) (P := fun k => Rch (mX3_looks, 7, 0, 0, oQ Q) 0 0 53 [some (.ref 97), some (.int (nI x)), some (.ref 17), some (.int (nI k))] [] (r0, (xC (.ref 2) iv tP tL tA tK tC tS tH (nI n) tE tZ tf mP mf (E.1) (upd S.2.1 x E.2.1) (upd S.2.2 x E.2.2) (E.2.2) (if anyB (fun p => hasB E.2.1 (nI p) && tP p == nI w) k = true then eg ||| (1 <<< (nI x &&& 31)) else eg) (.ref 9) rx gx wx hv tp td rf rc ic), (wC th pf nl ag lk co sh hs my ev se lc), r3)) ?_ ?_
  · refine r_iload_n dX3_looks_53 rfl ?_
    refine r_bipush 12 dX3_looks_54 (by decide) ?_
    refine r_icmp_ge 111 dX3_looks_56 (by decide) (fun _ => ?_) (fun c_ => absurd (geT 12) c_)
    exact r_vret dX3_looks_111 rfl (Nat.le_of_ble_eq_true rfl) (Nat.le_of_ble_eq_true rfl) (by have h2 := hQ E.2.2; unfold gladB at h2; rw [← any_fst] at h2; exact h2)
  · intro k hk ih
    refine r_iload_n dX3_looks_53 rfl ?_
    refine r_bipush 12 dX3_looks_54 (by decide) ?_
    refine r_icmp_ge 111 dX3_looks_56 (by decide) (fun c_ => absurd c_ (geF hk (by decide))) (fun _ => ?_)
    refine r_aload_n dX3_looks_59 rfl ?_
    refine r_get bX3 1 (by decide) q217 dX3_looks_60 rfl rfl ?_
    refine r_iload_n dX3_looks_63 rfl ?_
    refine r_ialdN dX3_looks_64 rfl (by omega) (Nat.le_of_ble_eq_true rfl) ?_
    rw [pk_us]
    refine r_iload_n dX3_looks_65 rfl ?_
    refine r_callSN (host := "SeenInOrderOfAge") (as := [_, _]) okX0_has (List.mem_of_getElem? (i := 8) rfl) dX3_looks_66 (Nat.le_of_ble_eq_true rfl) rfl (Nat.le_of_ble_eq_true rfl) (Nat.le_of_ble_eq_true rfl) (Nat.le_of_ble_eq_true rfl) (pX0_has ?_)
    refine r_if_eq 105 dX3_looks_69 (by decide) (fun c_69 => ?_) (fun c_69 => ?_)
    · refine r_iincV dX3_looks_105 rfl (Nat.le_of_ble_eq_true rfl) (incN _) ?_
      refine r_goto 53 dX3_looks_108 (by decide) ?_
      first | (have q1 := b2i_0.mp c_69; simp only [anyB, q1, Bool.false_and, Bool.or_false] at ih; exact ih) | (have q1 := b2i_n.mp c_69; have q2 : (tP k == nI w) = true := (by simpa using c_90); simp only [anyB, q1, q2, Bool.and_self, Bool.or_true, if_true] at ih; rw [gl_or]; exact ih) | (have q1 := b2i_n.mp c_69; have q2 : (tP k == nI w) = false := (by simpa using c_90); simp only [anyB, q1, q2, Bool.and_false, Bool.or_false] at ih; exact ih)
    · refine r_aload_n dX3_looks_72 rfl ?_
      refine r_get bX2 0 (by decide) q144 dX3_looks_73 rfl rfl ?_
      refine r_iload_n dX3_looks_76 rfl ?_
      refine r_ialdN dX3_looks_77 rfl (by omega) (Nat.le_of_ble_eq_true rfl) ?_
      refine r_aload_n dX3_looks_78 rfl ?_
      refine r_get bX3 3 (by decide) q221 dX3_looks_79 rfl rfl ?_
      refine r_get bX1 1 (by decide) q162 dX3_looks_82 rfl rfl ?_
      refine r_iload_n dX3_looks_85 rfl ?_
      refine r_aald_looker dX3_looks_86 rfl (vp_in_nI (by omega) (by omega)) ?_
      rw [nI_clamp (by omega), enl]
      refine r_lkA q678 dX3_looks_87 k6 (hcell _ _ _ _ _ _ _ _ _ _ _ _ _) ?_
      refine r_icmp_ne 105 dX3_looks_90 (by decide) (fun c_90 => ?_) (fun c_90 => ?_)
      · refine r_iincV dX3_looks_105 rfl (Nat.le_of_ble_eq_true rfl) (incN _) ?_
        refine r_goto 53 dX3_looks_108 (by decide) ?_
        first | (have q1 := b2i_0.mp c_69; simp only [anyB, q1, Bool.false_and, Bool.or_false] at ih; exact ih) | (have q1 := b2i_n.mp c_69; have q2 : (tP k == nI w) = true := (by simpa using c_90); simp only [anyB, q1, q2, Bool.and_self, Bool.or_true, if_true] at ih; rw [gl_or]; exact ih) | (have q1 := b2i_n.mp c_69; have q2 : (tP k == nI w) = false := (by simpa using c_90); simp only [anyB, q1, q2, Bool.and_false, Bool.or_false] at ih; exact ih)
      · refine r_aload_n dX3_looks_93 rfl ?_
        refine r_dup dX3_looks_94 rfl ?_
        refine r_get bX3 4 (by decide) q222 dX3_looks_95 rfl rfl ?_
        refine r_iconst 1 dX3_looks_98 (by decide) ?_
        refine r_iload_n dX3_looks_99 rfl ?_
        refine r_ishl dX3_looks_100 ?_
        refine r_ior dX3_looks_101 ?_
        refine r_put bX3 4 (by decide) rfl q222 dX3_looks_102 rfl rfl rfl (Nat.le_of_ble_eq_true rfl) ?_
        refine r_iincV dX3_looks_105 rfl (Nat.le_of_ble_eq_true rfl) (incN _) ?_
        refine r_goto 53 dX3_looks_108 (by decide) ?_
        first | (have q1 := b2i_0.mp c_69; simp only [anyB, q1, Bool.false_and, Bool.or_false] at ih; exact ih) | (have q1 := b2i_n.mp c_69; have q2 : (tP k == nI w) = true := (by simpa using c_90); simp only [anyB, q1, q2, Bool.and_self, Bool.or_true, if_true] at ih; rw [gl_or]; exact ih) | (have q1 := b2i_n.mp c_69; have q2 : (tP k == nI w) = false := (by simpa using c_90); simp only [anyB, q1, q2, Bool.and_false, Bool.or_false] at ih; exact ih)
theorem pX3_from_t {set : Int32} (hn : n ≤ 8) (hL : LkI lc r3 tL kN ow n) (hP : ThI tP) (hQ : ∀ ef', Q (some (.ref 97)) (r0, (xC (.ref 2) iv tP tL tA tK tC tS tH (nI n) tE tZ tf mP mf ((evR kN ow tK tA n tP set).1) ((evR kN ow tK tA n tP set).2.1) ((evR kN ow tK tA n tP set).2.2) (ef') (bitsI (fun l => hasB set (nI l) && gladB tP ((evR kN ow tK tA n tP set).2.1 l) (ow l)) n) (.ref 9) rx gx wx hv tp td rf rc ic), (wC th pf nl ag lk co sh hs my ev se lc), r3)) : AMet mX3_from 8 0 0 [.ref 97, .ref 9, .ref 17, .int set] (r0, (xC (.ref 2) iv tP tL tA tK tC tS tH (nI n) tE tZ tf mP mf eP eT eF ef eg ew rx gx wx hv tp td rf rc ic), (wC th pf nl ag lk co sh hs my ev se lc), r3) Q := by
  refine AMet.ofRch rfl rfl (Nat.le_of_ble_eq_true rfl) ?_
  refine r_aload_n dX3_from_0 rfl ?_
  refine r_aload_n dX3_from_1 rfl ?_
  refine r_put bX3 3 (by decide) rfl q221 dX3_from_2 rfl rfl rfl (Nat.le_of_ble_eq_true rfl) ?_
  refine r_aload_n dX3_from_5 rfl ?_
  refine r_get bX3 0 (by decide) q215 dX3_from_6 rfl rfl ?_
  refine r_aload_n dX3_from_9 rfl ?_
  refine r_callV (as := [_]) okX2_becomes bX2 rfl rfl q555 dX3_from_10 (Nat.le_of_ble_eq_true rfl) rfl (Nat.le_of_ble_eq_true rfl) (Nat.le_of_ble_eq_true rfl) (Nat.le_of_ble_eq_true rfl) (pX2_becomes (a := 105) (s := 113) (b := 17) rfl rfl rfl rfl ?_)
  refine r_pop dX3_from_13 rfl ?_
  refine r_aload_n dX3_from_14 rfl ?_
  refine r_iconst 0 dX3_from_15 (by decide) ?_
  refine r_put bX3 4 (by decide) rfl q222 dX3_from_16 rfl rfl rfl (Nat.le_of_ble_eq_true rfl) ?_
  refine r_aload_n dX3_from_19 rfl ?_
  refine r_get bX3 1 (by decide) q217 dX3_from_20 rfl rfl ?_
  refine r_iconst 0 dX3_from_23 (by decide) ?_
  refine r_callS (as := [_, _]) okJ0_fill q560 dX3_from_24 (Nat.le_of_ble_eq_true rfl) rfl (Nat.le_of_ble_eq_true rfl) (Nat.le_of_ble_eq_true rfl) (Nat.le_of_ble_eq_true rfl) (pJ0_fill (a := 121) rfl (by decide) ?_)
  refine r_aload_n dX3_from_27 rfl ?_
  refine r_get bX3 2 (by decide) q219 dX3_from_28 rfl rfl ?_
  refine r_iconst (-1) dX3_from_31 (by decide) ?_
  refine r_callS (as := [_, _]) okJ0_fill q560 dX3_from_32 (Nat.le_of_ble_eq_true rfl) rfl (Nat.le_of_ble_eq_true rfl) (Nat.le_of_ble_eq_true rfl) (Nat.le_of_ble_eq_true rfl) (pJ0_fill (a := 129) rfl (by decide) ?_)
  refine r_iload_n dX3_from_35 rfl ?_
  refine r_istore dX3_from_36 (Nat.le_of_ble_eq_true rfl) ?_
  refine r_aload_n dX3_from_38 rfl ?_
  refine r_get bX3 3 (by decide) q221 dX3_from_39 rfl rfl ?_
  refine r_iload dX3_from_42 rfl ?_
  refine r_callV (as := [_]) okX1_next bX1 rfl rfl q561 dX3_from_44 (Nat.le_of_ble_eq_true rfl) rfl (Nat.le_of_ble_eq_true rfl) (Nat.le_of_ble_eq_true rfl) (Nat.le_of_ble_eq_true rfl) (pX1_next hn rfl rfl ?_)
  refine r_istore dX3_from_47 (Nat.le_of_ble_eq_true rfl) ?_
  have main : ∀ (L : List Nat) (lf : Int32) (S : RS) (g ef : Int32), ordL tA lf n = L → (∀ x, x ∈ L → S.2.1 x = 0 ∧ S.2.2 x = -1) → RsI tP S → (∀ ef', Q (some (.ref 97)) (r0, (xC (.ref 2) iv tP tL tA tK tC tS tH (nI n) tE tZ tf mP mf ((runS kN ow tK L S).1) ((runS kN ow tK L S).2.1) ((runS kN ow tK L S).2.2) (ef') (glR tP kN ow tK L S g) (.ref 9) rx gx wx hv tp td rf rc ic), (wC th pf nl ag lk co sh hs my ev se lc), r3)) → Rch (mX3_from, 8, 0, 0, oQ Q) 0 0 49 [some (.ref 97), some (.ref 9), some (.ref 17), some (.int set), some (.int lf), some (.int (hdO L))] [] (r0, (xC (.ref 2) iv tP tL tA tK tC tS tH (nI n) tE tZ tf mP mf (S.1) (S.2.1) (S.2.2) (ef) (g) (.ref 9) rx gx wx hv tp td rf rc ic), (wC th pf nl ag lk co sh hs my ev se lc), r3) := by
    intro L
    induction L with
    | nil =>
      intro lf S g ef hL2 h2 h3 hq
      refine r_iload dX3_from_49 rfl ?_
      refine r_iconst (-1) dX3_from_51 (by decide) ?_
      refine r_icmp_eq 87 dX3_from_52 (by decide) (fun _ => ?_) (fun c_ => absurd (rfl) c_)
      refine r_aload_n dX3_from_87 rfl ?_
      exact r_aret dX3_from_88 rfl (by first | exact Or.inl ⟨_, rfl⟩ | exact Or.inr ⟨_, rfl⟩) (Nat.le_of_ble_eq_true rfl) (Nat.le_of_ble_eq_true rfl) (hq ef)
    | cons x xs ih =>
      intro lf S g ef hL2 h2 h3 hq
      have hx : x < n := ordL_lt tA lf n x (by rw [hL2]; exact List.mem_cons_self)
      have hnd := ordL_nodup tA lf n
      rw [hL2] at hnd
      have hnd := List.nodup_cons.mp hnd
      have e2 : ordL tA (lf &&& ((1 <<< (hdO (x :: xs) &&& 31)) ^^^ -1)) n = xs := ordL_tail n x xs (by omega) hL2
      have hS : ThI S.1 := by
        intro q hq2
        rcases (h3 0).1 q hq2 with e | e
        · have e : S.1 q = tP q := e
          rw [e]; exact hP q hq2
        · exact Or.inl e
      have how : ow x ≠ -1 := by
        obtain ⟨-, ⟨w, hw, ew⟩, -⟩ := hL x hx
        rw [ew]; exact nI_m1 (by omega)
      refine r_iload dX3_from_49 rfl ?_
      refine r_iconst (-1) dX3_from_51 (by decide) ?_
      refine r_icmp_eq 87 dX3_from_52 (by decide) (fun c_ => absurd c_ (nI_m1 (by omega))) (fun _ => ?_)
      refine r_aload_n dX3_from_55 rfl ?_
      refine r_iload dX3_from_56 rfl ?_
      refine r_aload_n dX3_from_58 rfl ?_
      refine r_callV (as := [_, _]) okX3_looks bX3 rfl rfl q568 dX3_from_59 (Nat.le_of_ble_eq_true rfl) rfl (Nat.le_of_ble_eq_true rfl) (Nat.le_of_ble_eq_true rfl) (Nat.le_of_ble_eq_true rfl) (pX3_looks_t (x := x) (S := S) hn hx hL (h2 x List.mem_cons_self).1 (h2 x List.mem_cons_self).2 hS (fun ef2 => ?_))
      refine r_iload dX3_from_62 rfl ?_
      refine r_iconst 1 dX3_from_64 (by decide) ?_
      refine r_iload dX3_from_65 rfl ?_
      refine r_ishl dX3_from_67 ?_
      refine r_iconst (-1) dX3_from_68 (by decide) ?_
      refine r_ixor dX3_from_69 ?_
      refine r_iand dX3_from_70 ?_
      refine r_istore dX3_from_71 (Nat.le_of_ble_eq_true rfl) ?_
      refine r_aload_n dX3_from_73 rfl ?_
      refine r_get bX3 3 (by decide) q221 dX3_from_74 rfl rfl ?_
      refine r_iload dX3_from_77 rfl ?_
      refine r_callV (as := [_]) okX1_next bX1 rfl rfl q561 dX3_from_79 (Nat.le_of_ble_eq_true rfl) rfl (Nat.le_of_ble_eq_true rfl) (Nat.le_of_ble_eq_true rfl) (Nat.le_of_ble_eq_true rfl) (pX1_next hn rfl rfl ?_)
      rw [e2]
      refine r_istore dX3_from_82 (Nat.le_of_ble_eq_true rfl) ?_
      refine r_goto 49 dX3_from_84 (by decide) ?_
      refine ih _ _ _ _ e2 (fun y hy => ?_) (st_RsI how h3) hq
      have hne : y ≠ x := fun e => hnd.1 (e ▸ hy)
      have h4 := h2 y (List.mem_cons_of_mem _ hy)
      refine ⟨?_, ?_⟩
      · show upd S.2.1 x _ y = 0
        rw [pk_un hne]; exact h4.1
      · show upd S.2.2 x _ y = -1
        rw [pk_un hne]; exact h4.2
  refine main (ordL tA set n) set (tP, fun _ => 0, fun _ => -1) 0 ef rfl (fun _ _ => ⟨rfl, rfl⟩) (rs_0 _) (fun ef2 => ?_)
  rw [gl_ev]
  exact hQ ef2
theorem pX3_of_t {set : Int32} (hn : n ≤ 8) (hL : LkI lc r3 tL kN ow n) (hP : ThI tP) (hQ : ∀ ef', Q (some (.ref 97)) (r0, (xC (.ref 2) iv tP tL tA tK tC tS tH (nI n) tE tZ tf mP mf ((evR kN ow tK tA n tP set).1) ((evR kN ow tK tA n tP set).2.1) ((evR kN ow tK tA n tP set).2.2) (ef') (bitsI (fun l => hasB set (nI l) && gladB tP ((evR kN ow tK tA n tP set).2.1 l) (ow l)) n) (.ref 9) rx gx wx hv tp td rf rc ic), (wC th pf nl ag lk co sh hs my ev se lc), r3)) : AMet mX3_of 9 0 0 [.ref 97, .ref 9, .int set] (r0, (xC (.ref 2) iv tP tL tA tK tC tS tH (nI n) tE tZ tf mP mf eP eT eF ef eg ew rx gx wx hv tp td rf rc ic), (wC th pf nl ag lk co sh hs my ev se lc), r3) Q := by
  refine AMet.ofRch rfl rfl (Nat.le_of_ble_eq_true rfl) ?_
  refine r_aload_n dX3_of_0 rfl ?_
  refine r_aload_n dX3_of_1 rfl ?_
  refine r_aload_n dX3_of_2 rfl ?_
  refine r_get bX1 0 (by decide) q158 dX3_of_3 rfl rfl ?_
  refine r_iload_n dX3_of_6 rfl ?_
  refine r_callV (as := [_, _, _]) okX3_from bX3 rfl rfl q551 dX3_of_7 (Nat.le_of_ble_eq_true rfl) rfl (Nat.le_of_ble_eq_true rfl) (Nat.le_of_ble_eq_true rfl) (Nat.le_of_ble_eq_true rfl) (pX3_from_t hn hL hP (fun ef2 => ?_))
  exact r_aret dX3_of_10 rfl (by first | exact Or.inl ⟨_, rfl⟩ | exact Or.inr ⟨_, rfl⟩) (Nat.le_of_ble_eq_true rfl) (Nat.le_of_ble_eq_true rfl) (hQ ef2)
theorem pX3_looks_m {x : Nat} {S : RS} (hn : n ≤ 8) (hx : x < n) (hL : LkI lc r3 nl kN ow n) (h0 : S.2.1 x = 0) (h1 : S.2.2 x = -1) (hS : ThI S.1) (hQ : ∀ ef', Q none (r0, (xC (.ref 2) iv tP tL tA tK tC tS tH tN tE tZ tf mP mf ((stR kN ow lk x S).1) ((stR kN ow lk x S).2.1) ((stR kN ow lk x S).2.2) (ef') (if gladB mP ((stR kN ow lk x S).2.1 x) (ow x) = true then eg ||| (1 <<< (nI x &&& 31)) else eg) (.ref 2) rx gx wx hv tp td rf rc ic), (wC th pf nl ag lk co sh hs (nI n) ev se lc), r3)) : AMet mX3_looks 7 0 0 [.ref 97, .int (nI x), .ref 81] (r0, (xC (.ref 2) iv tP tL tA tK tC tS tH tN tE tZ tf mP mf (S.1) (S.2.1) (S.2.2) (ef) (eg) (.ref 2) rx gx wx hv tp td rf rc ic), (wC th pf nl ag lk co sh hs (nI n) ev se lc), r3) Q := by
  refine AMet.ofRch rfl rfl (Nat.le_of_ble_eq_true rfl) ?_
  obtain ⟨k6, w, la, hw, ew, enl, hla, hcell⟩ := hL.at hx
  have eg0 : goF (kN x) (ow x) (lk x) (S.1, S.2.1 x, S.2.2 x) = goF (kN x) (nI w) (lk x) (S.1, 0, -1) := by rw [ew, h0, h1]
  have hQ : ∀ ef', Q none (r0, (xC (.ref 2) iv tP tL tA tK tC tS tH tN tE tZ tf mP mf ((goF (kN x) (nI w) (lk x) (S.1, 0, -1)).1) (upd S.2.1 x (goF (kN x) (nI w) (lk x) (S.1, 0, -1)).2.1) (upd S.2.2 x (goF (kN x) (nI w) (lk x) (S.1, 0, -1)).2.2) (ef') (if gladB mP (goF (kN x) (nI w) (lk x) (S.1, 0, -1)).2.1 (nI w) = true then eg ||| (1 <<< (nI x &&& 31)) else eg) (.ref 2) rx gx wx hv tp td rf rc ic), (wC th pf nl ag lk co sh hs (nI n) ev se lc), r3) := by
    intro ef'
    have h2 := hQ ef'
    simp only [stR, pk_us] at h2
    rw [eg0, ew] at h2
    exact h2
  refine r_aload_n dX3_looks_0 rfl ?_
  refine r_get bX3 0 (by decide) q215 dX3_looks_1 rfl rfl ?_
  refine r_iconst (-1) dX3_looks_4 (by decide) ?_
  refine r_put bX2 1 (by decide) rfl q147 dX3_looks_5 rfl rfl rfl (Nat.le_of_ble_eq_true rfl) ?_
  refine r_aload_n dX3_looks_8 rfl ?_
  refine r_get bX3 1 (by decide) q217 dX3_looks_9 rfl rfl ?_
  refine r_iload_n dX3_looks_12 rfl ?_
  refine r_aload_n dX3_looks_13 rfl ?_
  refine r_get bX3 3 (by decide) q221 dX3_looks_14 rfl rfl ?_
  refine r_get bX1 1 (by decide) q162 dX3_looks_17 rfl rfl ?_
  refine r_iload_n dX3_looks_20 rfl ?_
  refine r_aald_looker dX3_looks_21 rfl (vp_in_nI (by omega) (by omega)) ?_
  rw [nI_clamp (by omega), enl]
  refine r_aload_n dX3_looks_22 rfl ?_
  refine r_get bX3 0 (by decide) q215 dX3_looks_23 rfl rfl ?_
  refine r_aload_n dX3_looks_26 rfl ?_
  refine r_get bX3 3 (by decide) q221 dX3_looks_27 rfl rfl ?_
  refine r_iload_n dX3_looks_30 rfl ?_
  refine r_callV (as := [_]) okX1_liked bX1 rfl rfl q572 dX3_looks_31 (Nat.le_of_ble_eq_true rfl) rfl (Nat.le_of_ble_eq_true rfl) (Nat.le_of_ble_eq_true rfl) (Nat.le_of_ble_eq_true rfl) (pX1_liked (w := nI w) (c := kN x) (by omega) rfl rfl rfl enl k6 (hcell _ _ _ _ _ _ _ _ _ _ _ _ _) ?_)
  refine r_takes (k := kN x) (w := w) (nu := nI x) (lk := lk x) (P := S.1) (s := 113) k6 hw (by omega) (by omega) (hcell _ _ _ _ _ _ _ _ _ _ _ _ _) rfl rfl (by decide) hS q576 dX3_looks_34 (Nat.le_of_ble_eq_true rfl) (Nat.le_of_ble_eq_true rfl) (Nat.le_of_ble_eq_true rfl) (Nat.le_of_ble_eq_true rfl) ?_
  generalize goF (kN x) (nI w) (lk x) (S.1, 0, -1) = E at hQ ⊢
  refine r_iastN dX3_looks_37 rfl (by omega) (Nat.le_of_ble_eq_true rfl) ?_
  refine r_aload_n dX3_looks_38 rfl ?_
  refine r_get bX3 2 (by decide) q219 dX3_looks_39 rfl rfl ?_
  refine r_iload_n dX3_looks_42 rfl ?_
  refine r_aload_n dX3_looks_43 rfl ?_
  refine r_get bX3 0 (by decide) q215 dX3_looks_44 rfl rfl ?_
  refine r_get bX2 1 (by decide) q147 dX3_looks_47 rfl rfl ?_
  refine r_iastN dX3_looks_50 rfl (by omega) (Nat.le_of_ble_eq_true rfl) ?_
  refine r_iconst 0 dX3_looks_51 (by decide) ?_
  refine r_istore_n dX3_looks_52 (Nat.le_of_ble_eq_true rfl) ?_
  refine eqP (P := fun z => Rch (mX3_looks, 7, 0, 0, oQ Q) 0 0 53 [some (.ref 97), some (.int (nI x)), some (.ref 81), some (.int (nI 0))] [] (r0, (xC (.ref 2) iv tP tL tA tK tC tS tH tN tE tZ tf mP mf (E.1) (upd S.2.1 x E.2.1) (upd S.2.2 x E.2.2) (E.2.2) (z) (.ref 2) rx gx wx hv tp td rf rc ic), (wC th pf nl ag lk co sh hs (nI n) ev se lc), r3)) (show (if anyB (fun p => hasB E.2.1 (nI p) && mP p == nI w) 0 = true then eg ||| (1 <<< (nI x &&& 31)) else eg) = eg from rfl) ?_
  refine loopUp (N := 12) (P := fun k => Rch (mX3_looks, 7, 0, 0, oQ Q) 0 0 53 [some (.ref 97), some (.int (nI x)), some (.ref 81), some (.int (nI k))] [] (r0, (xC (.ref 2) iv tP tL tA tK tC tS tH tN tE tZ tf mP mf (E.1) (upd S.2.1 x E.2.1) (upd S.2.2 x E.2.2) (E.2.2) (if anyB (fun p => hasB E.2.1 (nI p) && mP p == nI w) k = true then eg ||| (1 <<< (nI x &&& 31)) else eg) (.ref 2) rx gx wx hv tp td rf rc ic), (wC th pf nl ag lk co sh hs (nI n) ev se lc), r3)) ?_ ?_
  · refine r_iload_n dX3_looks_53 rfl ?_
    refine r_bipush 12 dX3_looks_54 (by decide) ?_
    refine r_icmp_ge 111 dX3_looks_56 (by decide) (fun _ => ?_) (fun c_ => absurd (geT 12) c_)
    exact r_vret dX3_looks_111 rfl (Nat.le_of_ble_eq_true rfl) (Nat.le_of_ble_eq_true rfl) (by have h2 := hQ E.2.2; unfold gladB at h2; rw [← any_fst] at h2; exact h2)
  · intro k hk ih
    refine r_iload_n dX3_looks_53 rfl ?_
    refine r_bipush 12 dX3_looks_54 (by decide) ?_
    refine r_icmp_ge 111 dX3_looks_56 (by decide) (fun c_ => absurd c_ (geF hk (by decide))) (fun _ => ?_)
    refine r_aload_n dX3_looks_59 rfl ?_
    refine r_get bX3 1 (by decide) q217 dX3_looks_60 rfl rfl ?_
    refine r_iload_n dX3_looks_63 rfl ?_
    refine r_ialdN dX3_looks_64 rfl (by omega) (Nat.le_of_ble_eq_true rfl) ?_
    rw [pk_us]
    refine r_iload_n dX3_looks_65 rfl ?_
    refine r_callSN (host := "SeenInOrderOfAge") (as := [_, _]) okX0_has (List.mem_of_getElem? (i := 8) rfl) dX3_looks_66 (Nat.le_of_ble_eq_true rfl) rfl (Nat.le_of_ble_eq_true rfl) (Nat.le_of_ble_eq_true rfl) (Nat.le_of_ble_eq_true rfl) (pX0_has ?_)
    refine r_if_eq 105 dX3_looks_69 (by decide) (fun c_69 => ?_) (fun c_69 => ?_)
    · refine r_iincV dX3_looks_105 rfl (Nat.le_of_ble_eq_true rfl) (incN _) ?_
      refine r_goto 53 dX3_looks_108 (by decide) ?_
      first | (have q1 := b2i_0.mp c_69; simp only [anyB, q1, Bool.false_and, Bool.or_false] at ih; exact ih) | (have q1 := b2i_n.mp c_69; have q2 : (mP k == nI w) = true := (by simpa using c_90); simp only [anyB, q1, q2, Bool.and_self, Bool.or_true, if_true] at ih; rw [gl_or]; exact ih) | (have q1 := b2i_n.mp c_69; have q2 : (mP k == nI w) = false := (by simpa using c_90); simp only [anyB, q1, q2, Bool.and_false, Bool.or_false] at ih; exact ih)
    · refine r_aload_n dX3_looks_72 rfl ?_
      refine r_get bX2 0 (by decide) q144 dX3_looks_73 rfl rfl ?_
      refine r_iload_n dX3_looks_76 rfl ?_
      refine r_ialdN dX3_looks_77 rfl (by omega) (Nat.le_of_ble_eq_true rfl) ?_
      refine r_aload_n dX3_looks_78 rfl ?_
      refine r_get bX3 3 (by decide) q221 dX3_looks_79 rfl rfl ?_
      refine r_get bX1 1 (by decide) q162 dX3_looks_82 rfl rfl ?_
      refine r_iload_n dX3_looks_85 rfl ?_
      refine r_aald_looker dX3_looks_86 rfl (vp_in_nI (by omega) (by omega)) ?_
      rw [nI_clamp (by omega), enl]
      refine r_lkA q678 dX3_looks_87 k6 (hcell _ _ _ _ _ _ _ _ _ _ _ _ _) ?_
      refine r_icmp_ne 105 dX3_looks_90 (by decide) (fun c_90 => ?_) (fun c_90 => ?_)
      · refine r_iincV dX3_looks_105 rfl (Nat.le_of_ble_eq_true rfl) (incN _) ?_
        refine r_goto 53 dX3_looks_108 (by decide) ?_
        first | (have q1 := b2i_0.mp c_69; simp only [anyB, q1, Bool.false_and, Bool.or_false] at ih; exact ih) | (have q1 := b2i_n.mp c_69; have q2 : (mP k == nI w) = true := (by simpa using c_90); simp only [anyB, q1, q2, Bool.and_self, Bool.or_true, if_true] at ih; rw [gl_or]; exact ih) | (have q1 := b2i_n.mp c_69; have q2 : (mP k == nI w) = false := (by simpa using c_90); simp only [anyB, q1, q2, Bool.and_false, Bool.or_false] at ih; exact ih)
      · refine r_aload_n dX3_looks_93 rfl ?_
        refine r_dup dX3_looks_94 rfl ?_
        refine r_get bX3 4 (by decide) q222 dX3_looks_95 rfl rfl ?_
        refine r_iconst 1 dX3_looks_98 (by decide) ?_
        refine r_iload_n dX3_looks_99 rfl ?_
        refine r_ishl dX3_looks_100 ?_
        refine r_ior dX3_looks_101 ?_
        refine r_put bX3 4 (by decide) rfl q222 dX3_looks_102 rfl rfl rfl (Nat.le_of_ble_eq_true rfl) ?_
        refine r_iincV dX3_looks_105 rfl (Nat.le_of_ble_eq_true rfl) (incN _) ?_
        refine r_goto 53 dX3_looks_108 (by decide) ?_
        first | (have q1 := b2i_0.mp c_69; simp only [anyB, q1, Bool.false_and, Bool.or_false] at ih; exact ih) | (have q1 := b2i_n.mp c_69; have q2 : (mP k == nI w) = true := (by simpa using c_90); simp only [anyB, q1, q2, Bool.and_self, Bool.or_true, if_true] at ih; rw [gl_or]; exact ih) | (have q1 := b2i_n.mp c_69; have q2 : (mP k == nI w) = false := (by simpa using c_90); simp only [anyB, q1, q2, Bool.and_false, Bool.or_false] at ih; exact ih)
theorem pX3_from_m {set : Int32} (hn : n ≤ 8) (hL : LkI lc r3 nl kN ow n) (hP : ThI mP) (hQ : ∀ ef', Q (some (.ref 97)) (r0, (xC (.ref 2) iv tP tL tA tK tC tS tH tN tE tZ tf mP mf ((evR kN ow lk ag n mP set).1) ((evR kN ow lk ag n mP set).2.1) ((evR kN ow lk ag n mP set).2.2) (ef') (bitsI (fun l => hasB set (nI l) && gladB mP ((evR kN ow lk ag n mP set).2.1 l) (ow l)) n) (.ref 2) rx gx wx hv tp td rf rc ic), (wC th pf nl ag lk co sh hs (nI n) ev se lc), r3)) : AMet mX3_from 8 0 0 [.ref 97, .ref 2, .ref 81, .int set] (r0, (xC (.ref 2) iv tP tL tA tK tC tS tH tN tE tZ tf mP mf eP eT eF ef eg ew rx gx wx hv tp td rf rc ic), (wC th pf nl ag lk co sh hs (nI n) ev se lc), r3) Q := by
  refine AMet.ofRch rfl rfl (Nat.le_of_ble_eq_true rfl) ?_
  refine r_aload_n dX3_from_0 rfl ?_
  refine r_aload_n dX3_from_1 rfl ?_
  refine r_put bX3 3 (by decide) rfl q221 dX3_from_2 rfl rfl rfl (Nat.le_of_ble_eq_true rfl) ?_
  refine r_aload_n dX3_from_5 rfl ?_
  refine r_get bX3 0 (by decide) q215 dX3_from_6 rfl rfl ?_
  refine r_aload_n dX3_from_9 rfl ?_
  refine r_callV (as := [_]) okX2_becomes bX2 rfl rfl q555 dX3_from_10 (Nat.le_of_ble_eq_true rfl) rfl (Nat.le_of_ble_eq_true rfl) (Nat.le_of_ble_eq_true rfl) (Nat.le_of_ble_eq_true rfl) (pX2_becomes (a := 105) (s := 113) (b := 81) rfl rfl rfl rfl ?_)
  refine r_pop dX3_from_13 rfl ?_
  refine r_aload_n dX3_from_14 rfl ?_
  refine r_iconst 0 dX3_from_15 (by decide) ?_
  refine r_put bX3 4 (by decide) rfl q222 dX3_from_16 rfl rfl rfl (Nat.le_of_ble_eq_true rfl) ?_
  refine r_aload_n dX3_from_19 rfl ?_
  refine r_get bX3 1 (by decide) q217 dX3_from_20 rfl rfl ?_
  refine r_iconst 0 dX3_from_23 (by decide) ?_
  refine r_callS (as := [_, _]) okJ0_fill q560 dX3_from_24 (Nat.le_of_ble_eq_true rfl) rfl (Nat.le_of_ble_eq_true rfl) (Nat.le_of_ble_eq_true rfl) (Nat.le_of_ble_eq_true rfl) (pJ0_fill (a := 121) rfl (by decide) ?_)
  refine r_aload_n dX3_from_27 rfl ?_
  refine r_get bX3 2 (by decide) q219 dX3_from_28 rfl rfl ?_
  refine r_iconst (-1) dX3_from_31 (by decide) ?_
  refine r_callS (as := [_, _]) okJ0_fill q560 dX3_from_32 (Nat.le_of_ble_eq_true rfl) rfl (Nat.le_of_ble_eq_true rfl) (Nat.le_of_ble_eq_true rfl) (Nat.le_of_ble_eq_true rfl) (pJ0_fill (a := 129) rfl (by decide) ?_)
  refine r_iload_n dX3_from_35 rfl ?_
  refine r_istore dX3_from_36 (Nat.le_of_ble_eq_true rfl) ?_
  refine r_aload_n dX3_from_38 rfl ?_
  refine r_get bX3 3 (by decide) q221 dX3_from_39 rfl rfl ?_
  refine r_iload dX3_from_42 rfl ?_
  refine r_callV (as := [_]) okX1_next bX1 rfl rfl q561 dX3_from_44 (Nat.le_of_ble_eq_true rfl) rfl (Nat.le_of_ble_eq_true rfl) (Nat.le_of_ble_eq_true rfl) (Nat.le_of_ble_eq_true rfl) (pX1_next hn rfl rfl ?_)
  refine r_istore dX3_from_47 (Nat.le_of_ble_eq_true rfl) ?_
  have main : ∀ (L : List Nat) (lf : Int32) (S : RS) (g ef : Int32), ordL ag lf n = L → (∀ x, x ∈ L → S.2.1 x = 0 ∧ S.2.2 x = -1) → RsI mP S → (∀ ef', Q (some (.ref 97)) (r0, (xC (.ref 2) iv tP tL tA tK tC tS tH tN tE tZ tf mP mf ((runS kN ow lk L S).1) ((runS kN ow lk L S).2.1) ((runS kN ow lk L S).2.2) (ef') (glR mP kN ow lk L S g) (.ref 2) rx gx wx hv tp td rf rc ic), (wC th pf nl ag lk co sh hs (nI n) ev se lc), r3)) → Rch (mX3_from, 8, 0, 0, oQ Q) 0 0 49 [some (.ref 97), some (.ref 2), some (.ref 81), some (.int set), some (.int lf), some (.int (hdO L))] [] (r0, (xC (.ref 2) iv tP tL tA tK tC tS tH tN tE tZ tf mP mf (S.1) (S.2.1) (S.2.2) (ef) (g) (.ref 2) rx gx wx hv tp td rf rc ic), (wC th pf nl ag lk co sh hs (nI n) ev se lc), r3) := by
    intro L
    induction L with
    | nil =>
      intro lf S g ef hL2 h2 h3 hq
      refine r_iload dX3_from_49 rfl ?_
      refine r_iconst (-1) dX3_from_51 (by decide) ?_
      refine r_icmp_eq 87 dX3_from_52 (by decide) (fun _ => ?_) (fun c_ => absurd (rfl) c_)
      refine r_aload_n dX3_from_87 rfl ?_
      exact r_aret dX3_from_88 rfl (by first | exact Or.inl ⟨_, rfl⟩ | exact Or.inr ⟨_, rfl⟩) (Nat.le_of_ble_eq_true rfl) (Nat.le_of_ble_eq_true rfl) (hq ef)
    | cons x xs ih =>
      intro lf S g ef hL2 h2 h3 hq
      have hx : x < n := ordL_lt ag lf n x (by rw [hL2]; exact List.mem_cons_self)
      have hnd := ordL_nodup ag lf n
      rw [hL2] at hnd
      have hnd := List.nodup_cons.mp hnd
      have e2 : ordL ag (lf &&& ((1 <<< (hdO (x :: xs) &&& 31)) ^^^ -1)) n = xs := ordL_tail n x xs (by omega) hL2
      have hS : ThI S.1 := by
        intro q hq2
        rcases (h3 0).1 q hq2 with e | e
        · have e : S.1 q = mP q := e
          rw [e]; exact hP q hq2
        · exact Or.inl e
      have how : ow x ≠ -1 := by
        obtain ⟨-, ⟨w, hw, ew⟩, -⟩ := hL x hx
        rw [ew]; exact nI_m1 (by omega)
      refine r_iload dX3_from_49 rfl ?_
      refine r_iconst (-1) dX3_from_51 (by decide) ?_
      refine r_icmp_eq 87 dX3_from_52 (by decide) (fun c_ => absurd c_ (nI_m1 (by omega))) (fun _ => ?_)
      refine r_aload_n dX3_from_55 rfl ?_
      refine r_iload dX3_from_56 rfl ?_
      refine r_aload_n dX3_from_58 rfl ?_
      refine r_callV (as := [_, _]) okX3_looks bX3 rfl rfl q568 dX3_from_59 (Nat.le_of_ble_eq_true rfl) rfl (Nat.le_of_ble_eq_true rfl) (Nat.le_of_ble_eq_true rfl) (Nat.le_of_ble_eq_true rfl) (pX3_looks_m (x := x) (S := S) hn hx hL (h2 x List.mem_cons_self).1 (h2 x List.mem_cons_self).2 hS (fun ef2 => ?_))
      refine r_iload dX3_from_62 rfl ?_
      refine r_iconst 1 dX3_from_64 (by decide) ?_
      refine r_iload dX3_from_65 rfl ?_
      refine r_ishl dX3_from_67 ?_
      refine r_iconst (-1) dX3_from_68 (by decide) ?_
      refine r_ixor dX3_from_69 ?_
      refine r_iand dX3_from_70 ?_
      refine r_istore dX3_from_71 (Nat.le_of_ble_eq_true rfl) ?_
      refine r_aload_n dX3_from_73 rfl ?_
      refine r_get bX3 3 (by decide) q221 dX3_from_74 rfl rfl ?_
      refine r_iload dX3_from_77 rfl ?_
      refine r_callV (as := [_]) okX1_next bX1 rfl rfl q561 dX3_from_79 (Nat.le_of_ble_eq_true rfl) rfl (Nat.le_of_ble_eq_true rfl) (Nat.le_of_ble_eq_true rfl) (Nat.le_of_ble_eq_true rfl) (pX1_next hn rfl rfl ?_)
      rw [e2]
      refine r_istore dX3_from_82 (Nat.le_of_ble_eq_true rfl) ?_
      refine r_goto 49 dX3_from_84 (by decide) ?_
      refine ih _ _ _ _ e2 (fun y hy => ?_) (st_RsI how h3) hq
      have hne : y ≠ x := fun e => hnd.1 (e ▸ hy)
      have h4 := h2 y (List.mem_cons_of_mem _ hy)
      refine ⟨?_, ?_⟩
      · show upd S.2.1 x _ y = 0
        rw [pk_un hne]; exact h4.1
      · show upd S.2.2 x _ y = -1
        rw [pk_un hne]; exact h4.2
  refine main (ordL ag set n) set (mP, fun _ => 0, fun _ => -1) 0 ef rfl (fun _ _ => ⟨rfl, rfl⟩) (rs_0 _) (fun ef2 => ?_)
  rw [gl_ev]
  exact hQ ef2
end XX
