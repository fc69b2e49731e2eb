set_option maxRecDepth 100000
/-! the component: told evenings -/
theorem nI_half {i : Nat} (h : i < 2 ^ 30) : nI (2 * i) / 2 = nI i := by
  refine Int32.toInt_inj.mp ?_
  have e2 : (2 : Int32).toInt = 2 := by decide
  have : ((2 * i : Nat) : Int).tdiv 2 = i := by rw [Int.tdiv_eq_ediv_of_nonneg (by omega)]; omega
  rw [Int32.toInt_div, nI_toInt (by omega), nI_toInt (by omega), e2, this, Int.bmod_eq_of_le (by omega) (by omega)]
theorem inc2 (k : Nat) : nI (2 * k) + Int32.ofInt 2 = nI (2 * (k + 1)) := by
  have : Int32.ofInt 2 = nI 2 := by decide
  rw [this, nI_add]
  rfl
/-- whether a number is a looker's -/
def tdB (m : Int32) (x : Int64) : Bool := decide (¬ lg_cmp x 0 < 0 ∧ lg_cmp x m.toInt64 < 0)
theorem tdB_nI {n q : Nat} (hq : q < n) (hn : n ≤ 8) : tdB (nI n) (nI q).toInt64 = true := by
  rcases (show n = 0 ∨ n = 1 ∨ n = 2 ∨ n = 3 ∨ n = 4 ∨ n = 5 ∨ n = 6 ∨ n = 7 ∨ n = 8 by omega) with rfl | rfl | rfl | rfl | rfl | rfl | rfl | rfl | rfl <;>
  rcases (show q = 0 ∨ q = 1 ∨ q = 2 ∨ q = 3 ∨ q = 4 ∨ q = 5 ∨ q = 6 ∨ q = 7 by omega) with rfl | rfl | rfl | rfl | rfl | rfl | rfl | rfl <;> first | omega | decide +kernel
theorem tdB_neg {m : Int32} : tdB m (-1 : Int32).toInt64 = false := by
  unfold tdB
  rw [decide_eq_false_iff_not]
  intro h
  exact h.1 (by decide +kernel)
theorem tsF_up {g : Nat → Int64} {m : Int32} {k : Nat} : tsF g 0 m (k + 1) = if tdB m (g (2 * k)) = true then tsF g 0 m k ||| ((1 : Int32) <<< ((g (2 * k)).toInt32 &&& 31)) else tsF g 0 m k := by
  show (if ¬ lg_cmp (g (0 + 2 * k)) 0 < 0 ∧ lg_cmp (g (0 + 2 * k)) m.toInt64 < 0 then tsF g 0 m k ||| ((1 : Int32) <<< ((g (0 + 2 * k)).toInt32 &&& 31)) else tsF g 0 m k) = _
  rw [Nat.zero_add]
  unfold tdB
  simp only [decide_eq_true_eq]
theorem run_out (kN : Nat → Nat) (ow lk : Nat → Int32) (x : Nat) : ∀ (L : List Nat) (S : RS), x ∉ L → (runS kN ow lk L S).2.2 x = S.2.2 x
  | [], _, _ => rfl
  | l :: L, S, h => by
    have h1 : x ≠ l := fun e => h (by rw [e]; exact List.mem_cons_self)
    have h2 : x ∉ L := fun e => h (List.mem_cons_of_mem _ e)
    show (runS kN ow lk L (stR kN ow lk l S)).2.2 x = _
    rw [run_out kN ow lk x L _ h2]
    show (if x = l then _ else S.2.2 x) = S.2.2 x
    exact if_neg h1
/-- what one takes first stays -/
theorem run_fo (kN : Nat → Nat) (ow lk : Nat → Int32) {L : List Nat} {i : Nat} (hi : i < L.length) (hd : L.Nodup) (S : RS) : (runS kN ow lk L S).2.2 (L.getD i 0) = (runS kN ow lk (L.take (i + 1)) S).2.2 (L.getD i 0) := by
  have e : runS kN ow lk L S = runS kN ow lk (L.drop (i + 1)) (runS kN ow lk (L.take (i + 1)) S) := by
    conv => lhs; rw [← List.take_append_drop (i + 1) L]
    unfold runS
    rw [List.foldl_append]
  rw [e, run_out]
  intro hm
  obtain ⟨k, hk, ek⟩ := List.mem_iff_getElem.mp hm
  rw [List.length_drop] at hk
  rw [List.getElem_drop, List.getD_eq_getElem?_getD, List.getElem?_eq_getElem hi, Option.getD_some] at ek
  have hp := List.pairwise_iff_getElem.mp hd i (i + 1 + k) hi (by omega) (by omega)
  exact hp ek.symm
theorem hdO_drop {L : List Nat} {i : Nat} (h : i < L.length) : hdO (L.drop i) = nI (L.getD i 0) := by
  rw [List.drop_eq_getElem_cons h, List.getD_eq_getElem?_getD, List.getElem?_eq_getElem h]
  rfl
theorem mn8 (i : Nat) (hi : i ≤ 20) : mnF (nI i) 8 = nI (min i 8) := by
  show (if nI 8 < nI i then nI 8 else nI i) = nI (min i 8)
  by_cases h : 8 < i
  · rw [if_pos (nI_lt h (by omega)), show min i 8 = 8 by omega]
  · rw [if_neg (Int32.not_lt.mpr (nI_le (show i ≤ 8 by omega) (by decide))), show min i 8 = i by omega]
section XX
variable {iv : Value} {tP : Nat → Int32} {tL : Nat → Option Nat} {tA tK tC tS tH : Nat → Int32} {tN tE tZ tf : Int32} {mP : Nat → Int32} {mf : Int32} {eP eT eF : Nat → Int32} {ef eg : Int32} {ew : Value} {rx gx wx : Nat → Int32} {hv : Nat → Value} {tp : Nat → Int32} {td : Int32} {rf : Nat → Int32} {rc ic : Nat → AC} {th : Nat → Int32} {pf : Int32} {nl : Nat → Option Nat} {ag lk co sh hs : Nat → Int32} {my ev se : Int32} {lc : Nat → AC} {r0 r3 : List AC} {Q : Option Value → AHp → Prop} {n : Nat} {kN : Nat → Nat} {ow : Nat → Int32}
theorem pX0_isTold {h2 : List AC} {x : Int64} {w : Nat} {m : Int32} {w0 w1 w2 w3 w4 w5 w6 w8 w9 : Value} (hw : aGet (r0, (xC (.ref w) iv tP tL tA tK tC tS tH tN tE tZ tf mP mf eP eT eF ef eg ew rx gx wx hv tp td rf rc ic), h2, r3) w = some (.inr (1, [w0, w1, w2, w3, w4, w5, w6, .int m, w8, w9]))) (hQ : Q (some (.int (b2i (tdB m x)))) (r0, (xC (.ref w) iv tP tL tA tK tC tS tH tN tE tZ tf mP mf eP eT eF ef eg ew rx gx wx hv tp td rf rc ic), h2, r3)) : AMet mX0_isTold 1 0 0 [.ref 1, .long x] (r0, (xC (.ref w) iv tP tL tA tK tC tS tH tN tE tZ tf mP mf eP eT eF ef eg ew rx gx wx hv tp td rf rc ic), h2, r3) Q := by
  refine AMet.ofRch rfl rfl (Nat.le_of_ble_eq_true rfl) ?_
  refine r_lload_n dX0_isTold_0 rfl ?_
  refine r_lconst 0 dX0_isTold_1 (by decide) ?_
  refine r_lcmp dX0_isTold_2 ?_
  refine r_if_lt 23 dX0_isTold_3 (by decide) (fun c_3 => ?_) (fun c_3 => ?_)
  · refine r_iconst 0 dX0_isTold_23 (by decide) ?_
    exact r_zret (ty := .boolean) dX0_isTold_24 rfl (rfl) (Nat.le_of_ble_eq_true rfl) (Nat.le_of_ble_eq_true rfl) (qi (by unfold tdB b2i; first | (rw [if_pos (by simp only [decide_eq_true_eq]; exact ⟨c_3, Int32.not_le.mp c_16⟩)]) | (rw [if_neg (by simp only [decide_eq_true_eq]; exact fun z => absurd z.2 (Int32.not_lt.mpr c_16))]) | (rw [if_neg (by simp only [decide_eq_true_eq]; exact fun z => z.1 c_3)])) hQ)
  · refine r_lload_n dX0_isTold_6 rfl ?_
    refine r_aload_n dX0_isTold_7 rfl ?_
    refine r_get bX0 0 (by decide) q246 dX0_isTold_8 rfl rfl ?_
    refine r_get bX1 7 (by decide) q179 dX0_isTold_11 hw rfl ?_
    refine r_i2l dX0_isTold_14 ?_
    refine r_lcmp dX0_isTold_15 ?_
    refine r_if_ge 23 dX0_isTold_16 (by decide) (fun c_16 => ?_) (fun c_16 => ?_)
    · refine r_iconst 0 dX0_isTold_23 (by decide) ?_
      exact r_zret (ty := .boolean) dX0_isTold_24 rfl (rfl) (Nat.le_of_ble_eq_true rfl) (Nat.le_of_ble_eq_true rfl) (qi (by unfold tdB b2i; first | (rw [if_pos (by simp only [decide_eq_true_eq]; exact ⟨c_3, Int32.not_le.mp c_16⟩)]) | (rw [if_neg (by simp only [decide_eq_true_eq]; exact fun z => absurd z.2 (Int32.not_lt.mpr c_16))]) | (rw [if_neg (by simp only [decide_eq_true_eq]; exact fun z => z.1 c_3)])) hQ)
    · refine r_iconst 1 dX0_isTold_19 (by decide) ?_
      refine r_goto 24 dX0_isTold_20 (by decide) ?_
      exact r_zret (ty := .boolean) dX0_isTold_24 rfl (rfl) (Nat.le_of_ble_eq_true rfl) (Nat.le_of_ble_eq_true rfl) (qi (by unfold tdB b2i; first | (rw [if_pos (by simp only [decide_eq_true_eq]; exact ⟨c_3, Int32.not_le.mp c_16⟩)]) | (rw [if_neg (by simp only [decide_eq_true_eq]; exact fun z => absurd z.2 (Int32.not_lt.mpr c_16))]) | (rw [if_neg (by simp only [decide_eq_true_eq]; exact fun z => z.1 c_3)])) hQ)
theorem pX0_wrongIn {t z : Nat} {g : Nat → Int64} (hn : n ≤ 8) (hL : LkI lc r3 nl kN ow n) (hP : ThI th) (hz : z ≤ 20) (hT : ∀ x1, aGet (r0, x1, (wC th pf nl ag lk co sh hs (nI n) ev se lc), r3) t = some (.inl (.long, 2 * z, .inr (.inl g)))) (hQ : ∀ (eP eT eF : Nat → Int32) (ef eg : Int32) (ew : Value), Q (some (.int (wrF kN ow lk ag n th g 0 z))) (r0, (xC (.ref 2) iv tP tL tA tK tC tS tH tN tE tZ tf mP mf eP eT eF ef eg ew rx gx wx hv tp td rf rc ic), (wC th pf nl ag lk co sh hs (nI n) ev se lc), r3)) : AMet mX0_wrongIn 10 0 0 [.ref 1, .ref t] (r0, (xC (.ref 2) iv tP tL tA tK tC tS tH tN tE tZ tf mP mf eP eT eF ef eg ew rx gx wx hv tp td rf rc ic), (wC th pf nl ag lk co sh hs (nI n) ev se lc), r3) Q := by
  refine AMet.ofRch rfl rfl (Nat.le_of_ble_eq_true rfl) ?_
  refine r_iconst 0 dX0_wrongIn_0 (by decide) ?_
  refine r_istore_n dX0_wrongIn_1 (Nat.le_of_ble_eq_true rfl) ?_
  refine r_iconst 0 dX0_wrongIn_2 (by decide) ?_
  refine r_istore_n dX0_wrongIn_3 (Nat.le_of_ble_eq_true rfl) ?_
  refine loopUp (N := z) (P := fun k => Rch (mX0_wrongIn, 10, 0, 0, oQ Q) 0 0 4 [some (.ref 1), some (.ref t), some (.int (tsF g 0 (nI n) k)), some (.int (nI (2 * k))), none] [] (r0, (xC (.ref 2) iv tP tL tA tK tC tS tH tN tE tZ tf mP mf eP eT eF ef eg ew rx gx wx hv tp td rf rc ic), (wC th pf nl ag lk co sh hs (nI n) ev se lc), r3)) ?_ ?_
  · refine r_iload_n dX0_wrongIn_4 rfl ?_
    refine r_aload_n dX0_wrongIn_5 rfl ?_
    refine r_alen dX0_wrongIn_6 (hT _) 1 rfl ?_
    refine r_icmp_ge 39 dX0_wrongIn_7 (by decide) (fun _ => ?_) (fun c_ => absurd (Int32.le_refl _) c_)
    refine r_aload_n dX0_wrongIn_39 rfl ?_
    refine r_get bX0 4 (by decide) q250 dX0_wrongIn_40 rfl rfl ?_
    refine r_aload_n dX0_wrongIn_43 rfl ?_
    refine r_get bX0 0 (by decide) q246 dX0_wrongIn_44 rfl rfl ?_
    refine r_iload_n dX0_wrongIn_47 rfl ?_
    refine r_callV (as := [_, _]) okX3_of bX3 rfl rfl q547 dX0_wrongIn_48 (Nat.le_of_ble_eq_true rfl) rfl (Nat.le_of_ble_eq_true rfl) (Nat.le_of_ble_eq_true rfl) (Nat.le_of_ble_eq_true rfl) (pX3_of_n hn hL hP (fun ef2 => ?_))
    refine r_pop dX0_wrongIn_51 rfl ?_
    refine r_iconst 0 dX0_wrongIn_52 (by decide) ?_
    refine r_istore_n dX0_wrongIn_53 (Nat.le_of_ble_eq_true rfl) ?_
    have hlen := ordL_len ag (tsF g 0 (nI n) z) n
    have hnd := ordL_nodup ag (tsF g 0 (nI n) z) n
    generalize (bitsI (fun l => hasB (tsF g 0 (nI n) z) (nI l) && gladB th ((evR kN ow lk ag n th (tsF g 0 (nI n) z)).2.1 l) (ow l)) n) = eg2
    refine loopUp (N := z) (P := fun i => ∀ z4, wrF kN ow lk ag n th g 0 z = wrG g 0 (ordL ag (tsF g 0 (nI n) z) n) (fun i => (runS kN ow lk ((ordL ag (tsF g 0 (nI n) z) n).take i) (th, fun _ => 0, fun _ => -1)).2.2) (z - i) i → Rch (mX0_wrongIn, 10, 0, 0, oQ Q) 0 0 54 [some (.ref 1), some (.ref t), some (.int (tsF g 0 (nI n) z)), some (.int (nI (2 * i))), z4] [] (r0, (xC (.ref 2) iv tP tL tA tK tC tS tH tN tE tZ tf mP mf ((evR kN ow lk ag n th (tsF g 0 (nI n) z)).1) ((evR kN ow lk ag n th (tsF g 0 (nI n) z)).2.1) ((evR kN ow lk ag n th (tsF g 0 (nI n) z)).2.2) (ef2) (eg2) (.ref 2) rx gx wx hv tp td rf rc ic), (wC th pf nl ag lk co sh hs (nI n) ev se lc), r3)) ?_ ?_ none rfl
    · intro z4 e
      rw [Nat.sub_self] at e
      have e2 : wrF kN ow lk ag n th g 0 z = -1 := e
      refine r_iload_n dX0_wrongIn_54 rfl ?_
      refine r_aload_n dX0_wrongIn_55 rfl ?_
      refine r_alen dX0_wrongIn_56 (hT _) 1 rfl ?_
      refine r_icmp_ge 135 dX0_wrongIn_57 (by decide) (fun _ => ?_) (fun c_ => absurd (Int32.le_refl _) c_)
      refine r_iconst (-1) dX0_wrongIn_135 (by decide) ?_
      exact r_iret dX0_wrongIn_136 rfl (Nat.le_of_ble_eq_true rfl) (Nat.le_of_ble_eq_true rfl) (qi e2.symm (hQ _ _ _ _ _ _))
    · intro i hi ih z4 e
      rw [show z - i = (z - (i + 1)) + 1 by omega] at e
      have e := e.trans (show wrG g 0 (ordL ag (tsF g 0 (nI n) z) n) (fun i => (runS kN ow lk ((ordL ag (tsF g 0 (nI n) z) n).take i) (th, fun _ => 0, fun _ => -1)).2.2) (z - (i + 1) + 1) i = (if i < (ordL ag (tsF g 0 (nI n) z) n).length ∧ g (0 + 2 * i) = (nI ((ordL ag (tsF g 0 (nI n) z) n).getD i 0)).toInt64 ∧ g (0 + (2 * i + 1)) = ((fun i => (runS kN ow lk ((ordL ag (tsF g 0 (nI n) z) n).take i) (th, fun _ => 0, fun _ => -1)).2.2) (i + 1) ((ordL ag (tsF g 0 (nI n) z) n).getD i 0)).toInt64 then wrG g 0 (ordL ag (tsF g 0 (nI n) z) n) (fun i => (runS kN ow lk ((ordL ag (tsF g 0 (nI n) z) n).take i) (th, fun _ => 0, fun _ => -1)).2.2) (z - (i + 1)) (i + 1) else nI i) from rfl)
      rw [Nat.zero_add, Nat.zero_add] at e
      have e57 : ¬ nI (2 * z) ≤ nI (2 * i) := nI_ge (by omega) (by omega)
      by_cases hA : i < (ordL ag (tsF g 0 (nI n) z) n).length ∧ g (2 * i) = (nI ((ordL ag (tsF g 0 (nI n) z) n).getD i 0)).toInt64
      · have hx : (ordL ag (tsF g 0 (nI n) z) n).getD i 0 < n := ordL_lt ag _ n _ (getD_mem hA.1)
        have hx8 : (ordL ag (tsF g 0 (nI n) z) n).getD i 0 < 8 := by omega
        have e1 : ¬ b2i (tdB (nI n) (g (2 * i))) = 0 := b2i_n.mpr (by rw [hA.2]; exact tdB_nI hx hn)
        have e3 : hdO ((ordL ag (tsF g 0 (nI n) z) n).drop (min i 8)) = nI ((ordL ag (tsF g 0 (nI n) z) n).getD i 0) := by
          rw [show min i 8 = i by omega]
          exact hdO_drop hA.1
        have e4 : lg_cmp (g (2 * i)) (nI ((ordL ag (tsF g 0 (nI n) z) n).getD i 0)).toInt64 = 0 := lgcE.mpr hA.2
        have e5 : (g (2 * i)).toInt32 = nI ((ordL ag (tsF g 0 (nI n) z) n).getD i 0) := by rw [hA.2, Int32.toInt32_toInt64]
        have e6 : (evR kN ow lk ag n th (tsF g 0 (nI n) z)).2.2 ((ordL ag (tsF g 0 (nI n) z) n).getD i 0) = (fun i => (runS kN ow lk ((ordL ag (tsF g 0 (nI n) z) n).take i) (th, fun _ => 0, fun _ => -1)).2.2) (i + 1) ((ordL ag (tsF g 0 (nI n) z) n).getD i 0) := run_fo kN ow lk hA.1 hnd _
        refine r_iload_n dX0_wrongIn_54 rfl ?_
        refine r_aload_n dX0_wrongIn_55 rfl ?_
        refine r_alen dX0_wrongIn_56 (hT _) 1 rfl ?_
        refine r_icmp_ge 135 dX0_wrongIn_57 (by decide) (fun c_ => absurd c_ (e57)) (fun _ => ?_)
        refine r_aload_n dX0_wrongIn_60 rfl ?_
        refine r_aload_n dX0_wrongIn_61 rfl ?_
        refine r_iload_n dX0_wrongIn_62 rfl ?_
        refine r_laldN dX0_wrongIn_63 (hT _) (by omega) (by omega) ?_
        refine r_callV (as := [_]) okX0_isTold bX0 rfl rfl q1453 dX0_wrongIn_64 (Nat.le_of_ble_eq_true rfl) rfl (Nat.le_of_ble_eq_true rfl) (Nat.le_of_ble_eq_true rfl) (Nat.le_of_ble_eq_true rfl) (pX0_isTold rfl ?_)
        refine r_if_eq 95 dX0_wrongIn_67 (by decide) (fun c_ => absurd c_ (e1)) (fun _ => ?_)
        refine r_aload_n dX0_wrongIn_70 rfl ?_
        refine r_iload_n dX0_wrongIn_71 rfl ?_
        refine r_laldN dX0_wrongIn_72 (hT _) (by omega) (by omega) ?_
        refine r_aload_n dX0_wrongIn_73 rfl ?_
        refine r_iload_n dX0_wrongIn_74 rfl ?_
        refine r_iload_n dX0_wrongIn_75 rfl ?_
        refine r_iconst 2 dX0_wrongIn_76 (by decide) ?_
        refine r_idiv dX0_wrongIn_77 (by decide) ?_
        rw [nI_half (by omega)]
        refine r_bipush 8 dX0_wrongIn_78 (by decide) ?_
        refine r_mmin q1457 dX0_wrongIn_80 (Nat.le_of_ble_eq_true rfl) (Nat.le_of_ble_eq_true rfl) (Nat.le_of_ble_eq_true rfl) ?_
        rw [show mnF (nI i) 8 = nI (min i 8) from mn8 i (by omega)]
        refine r_callV (as := [_, _]) okX0_inOrder bX0 rfl rfl q1275 dX0_wrongIn_83 (Nat.le_of_ble_eq_true rfl) rfl (Nat.le_of_ble_eq_true rfl) (Nat.le_of_ble_eq_true rfl) (Nat.le_of_ble_eq_true rfl) (pX0_inOrder hn (by omega) ?_)
        rw [e3]
        refine r_i2l dX0_wrongIn_86 ?_
        refine r_lcmp dX0_wrongIn_87 ?_
        refine r_if_ne 95 dX0_wrongIn_88 (by decide) (fun c_ => absurd (e4) c_) (fun _ => ?_)
        refine r_iconst 1 dX0_wrongIn_91 (by decide) ?_
        refine r_goto 96 dX0_wrongIn_92 (by decide) ?_
        refine r_istore dX0_wrongIn_96 (Nat.le_of_ble_eq_true rfl) ?_
        refine r_iload dX0_wrongIn_98 rfl ?_
        refine r_if_eq 125 dX0_wrongIn_100 (by decide) (fun c_ => absurd c_ (by decide)) (fun _ => ?_)
        refine r_aload_n dX0_wrongIn_103 rfl ?_
        refine r_iload_n dX0_wrongIn_104 rfl ?_
        refine r_iconst 1 dX0_wrongIn_105 (by decide) ?_
        refine r_iadd dX0_wrongIn_106 ?_
        rw [nI_1]
        refine r_laldN dX0_wrongIn_107 (hT _) (by omega) (by omega) ?_
        refine r_aload_n dX0_wrongIn_108 rfl ?_
        refine r_get bX0 4 (by decide) q250 dX0_wrongIn_109 rfl rfl ?_
        refine r_get bX3 2 (by decide) q220 dX0_wrongIn_112 rfl rfl ?_
        refine r_aload_n dX0_wrongIn_115 rfl ?_
        refine r_iload_n dX0_wrongIn_116 rfl ?_
        refine r_laldN dX0_wrongIn_117 (hT _) (by omega) (by omega) ?_
        refine r_l2i dX0_wrongIn_118 ?_
        rw [e5]
        refine r_ialdN dX0_wrongIn_119 rfl hx8 (by decide) ?_
        refine r_i2l dX0_wrongIn_120 ?_
        refine r_lcmp dX0_wrongIn_121 ?_
        refine r_if_eq 129 dX0_wrongIn_122 (by decide) (fun c_122 => ?_) (fun c_122 => ?_)
        · refine r_iincV dX0_wrongIn_129 rfl (Nat.le_of_ble_eq_true rfl) (inc2 _) ?_
          refine r_goto 54 dX0_wrongIn_132 (by decide) ?_
          refine ih _ ?_
          rw [e, if_pos ⟨hA.1, hA.2, (lgcE.mp c_122).trans (by rw [e6])⟩]
        · refine r_iload_n dX0_wrongIn_125 rfl ?_
          refine r_iconst 2 dX0_wrongIn_126 (by decide) ?_
          refine r_idiv dX0_wrongIn_127 (by decide) ?_
          rw [nI_half (by omega)]
          exact r_iret dX0_wrongIn_128 rfl (Nat.le_of_ble_eq_true rfl) (Nat.le_of_ble_eq_true rfl) (qi (by rw [e, if_neg (fun w => c_122 (lgcE.mpr (w.2.2.trans (by rw [e6]))))]) (hQ _ _ _ _ _ _))
      · have e2 : wrF kN ow lk ag n th g 0 z = nI i := by rw [e, if_neg (fun w => hA ⟨w.1, w.2.1⟩)]
        have hne : ¬ b2i (tdB (nI n) (g (2 * i))) = 0 → ¬ lg_cmp (g (2 * i)) (hdO ((ordL ag (tsF g 0 (nI n) z) n).drop (min i 8))).toInt64 = 0 := by
          intro h1 h3
          have h1 := b2i_n.mp h1
          have h3 := lgcE.mp h3
          by_cases hl : i < (ordL ag (tsF g 0 (nI n) z) n).length
          · refine hA ⟨hl, ?_⟩
            rw [h3, show min i 8 = i by omega, hdO_drop hl]
          · have e7 : (ordL ag (tsF g 0 (nI n) z) n).drop (min i 8) = [] := List.drop_eq_nil_of_le (by omega)
            rw [e7] at h3
            rw [h3] at h1
            have h1 : tdB (nI n) (-1 : Int32).toInt64 = true := h1
            rw [tdB_neg] at h1
            cases h1
        refine r_iload_n dX0_wrongIn_54 rfl ?_
        refine r_aload_n dX0_wrongIn_55 rfl ?_
        refine r_alen dX0_wrongIn_56 (hT _) 1 rfl ?_
        refine r_icmp_ge 135 dX0_wrongIn_57 (by decide) (fun c_ => absurd c_ (e57)) (fun _ => ?_)
        refine r_aload_n dX0_wrongIn_60 rfl ?_
        refine r_aload_n dX0_wrongIn_61 rfl ?_
        refine r_iload_n dX0_wrongIn_62 rfl ?_
        refine r_laldN dX0_wrongIn_63 (hT _) (by omega) (by omega) ?_
        refine r_callV (as := [_]) okX0_isTold bX0 rfl rfl q1453 dX0_wrongIn_64 (Nat.le_of_ble_eq_true rfl) rfl (Nat.le_of_ble_eq_true rfl) (Nat.le_of_ble_eq_true rfl) (Nat.le_of_ble_eq_true rfl) (pX0_isTold rfl ?_)
        refine r_if_eq 95 dX0_wrongIn_67 (by decide) (fun c_67 => ?_) (fun c_67 => ?_)
        · refine r_iconst 0 dX0_wrongIn_95 (by decide) ?_
          refine r_istore dX0_wrongIn_96 (Nat.le_of_ble_eq_true rfl) ?_
          refine r_iload dX0_wrongIn_98 rfl ?_
          refine r_if_eq 125 dX0_wrongIn_100 (by decide) (fun _ => ?_) (fun c_ => absurd (rfl) c_)
          refine r_iload_n dX0_wrongIn_125 rfl ?_
          refine r_iconst 2 dX0_wrongIn_126 (by decide) ?_
          refine r_idiv dX0_wrongIn_127 (by decide) ?_
          rw [nI_half (by omega)]
          exact r_iret dX0_wrongIn_128 rfl (Nat.le_of_ble_eq_true rfl) (Nat.le_of_ble_eq_true rfl) (qi e2.symm (hQ _ _ _ _ _ _))
        · refine r_aload_n dX0_wrongIn_70 rfl ?_
          refine r_iload_n dX0_wrongIn_71 rfl ?_
          refine r_laldN dX0_wrongIn_72 (hT _) (by omega) (by omega) ?_
          refine r_aload_n dX0_wrongIn_73 rfl ?_
          refine r_iload_n dX0_wrongIn_74 rfl ?_
          refine r_iload_n dX0_wrongIn_75 rfl ?_
          refine r_iconst 2 dX0_wrongIn_76 (by decide) ?_
          refine r_idiv dX0_wrongIn_77 (by decide) ?_
          rw [nI_half (by omega)]
          refine r_bipush 8 dX0_wrongIn_78 (by decide) ?_
          refine r_mmin q1457 dX0_wrongIn_80 (Nat.le_of_ble_eq_true rfl) (Nat.le_of_ble_eq_true rfl) (Nat.le_of_ble_eq_true rfl) ?_
          rw [show mnF (nI i) 8 = nI (min i 8) from mn8 i (by omega)]
          refine r_callV (as := [_, _]) okX0_inOrder bX0 rfl rfl q1275 dX0_wrongIn_83 (Nat.le_of_ble_eq_true rfl) rfl (Nat.le_of_ble_eq_true rfl) (Nat.le_of_ble_eq_true rfl) (Nat.le_of_ble_eq_true rfl) (pX0_inOrder hn (by omega) ?_)
          refine r_i2l dX0_wrongIn_86 ?_
          refine r_lcmp dX0_wrongIn_87 ?_
          refine r_if_ne 95 dX0_wrongIn_88 (by decide) (fun _ => ?_) (fun c_ => absurd c_ (hne c_67))
          refine r_iconst 0 dX0_wrongIn_95 (by decide) ?_
          refine r_istore dX0_wrongIn_96 (Nat.le_of_ble_eq_true rfl) ?_
          refine r_iload dX0_wrongIn_98 rfl ?_
          refine r_if_eq 125 dX0_wrongIn_100 (by decide) (fun _ => ?_) (fun c_ => absurd (rfl) c_)
          refine r_iload_n dX0_wrongIn_125 rfl ?_
          refine r_iconst 2 dX0_wrongIn_126 (by decide) ?_
          refine r_idiv dX0_wrongIn_127 (by decide) ?_
          rw [nI_half (by omega)]
          exact r_iret dX0_wrongIn_128 rfl (Nat.le_of_ble_eq_true rfl) (Nat.le_of_ble_eq_true rfl) (qi e2.symm (hQ _ _ _ _ _ _))
  · intro k hk ih
    rw [tsF_up] at ih
    have e7 : ¬ nI (2 * z) ≤ nI (2 * k) := nI_ge (by omega) (by omega)
    refine r_iload_n dX0_wrongIn_4 rfl ?_
    refine r_aload_n dX0_wrongIn_5 rfl ?_
    refine r_alen dX0_wrongIn_6 (hT _) 1 rfl ?_
    refine r_icmp_ge 39 dX0_wrongIn_7 (by decide) (fun c_ => absurd c_ (e7)) (fun _ => ?_)
    refine r_iload_n dX0_wrongIn_10 rfl ?_
    refine r_aload_n dX0_wrongIn_11 rfl ?_
    refine r_aload_n dX0_wrongIn_12 rfl ?_
    refine r_iload_n dX0_wrongIn_13 rfl ?_
    refine r_laldN dX0_wrongIn_14 (hT _) (by omega) (by omega) ?_
    refine r_callV (as := [_]) okX0_isTold bX0 rfl rfl q1453 dX0_wrongIn_15 (Nat.le_of_ble_eq_true rfl) rfl (Nat.le_of_ble_eq_true rfl) (Nat.le_of_ble_eq_true rfl) (Nat.le_of_ble_eq_true rfl) (pX0_isTold rfl ?_)
    refine r_if_eq 30 dX0_wrongIn_18 (by decide) (fun c_18 => ?_) (fun c_18 => ?_)
    · refine r_iconst 0 dX0_wrongIn_30 (by decide) ?_
      refine r_ior dX0_wrongIn_31 ?_
      first | rw [Int32.or_zero] | skip
      refine r_istore_n dX0_wrongIn_32 (Nat.le_of_ble_eq_true rfl) ?_
      refine r_iincV dX0_wrongIn_33 rfl (Nat.le_of_ble_eq_true rfl) (inc2 _) ?_
      refine r_goto 4 dX0_wrongIn_36 (by decide) ?_
      first | (rw [if_pos (b2i_n.mp c_18)] at ih; exact ih) | (rw [if_neg (by rw [b2i_0.mp c_18]; decide)] at ih; exact ih)
    · refine r_iconst 1 dX0_wrongIn_21 (by decide) ?_
      refine r_aload_n dX0_wrongIn_22 rfl ?_
      refine r_iload_n dX0_wrongIn_23 rfl ?_
      refine r_laldN dX0_wrongIn_24 (hT _) (by omega) (by omega) ?_
      refine r_l2i dX0_wrongIn_25 ?_
      refine r_ishl dX0_wrongIn_26 ?_
      refine r_goto 31 dX0_wrongIn_27 (by decide) ?_
      refine r_ior dX0_wrongIn_31 ?_
      first | rw [Int32.or_zero] | skip
      refine r_istore_n dX0_wrongIn_32 (Nat.le_of_ble_eq_true rfl) ?_
      refine r_iincV dX0_wrongIn_33 rfl (Nat.le_of_ble_eq_true rfl) (inc2 _) ?_
      refine r_goto 4 dX0_wrongIn_36 (by decide) ?_
      first | (rw [if_pos (b2i_n.mp c_18)] at ih; exact ih) | (rw [if_neg (by rw [b2i_0.mp c_18]; decide)] at ih; exact ih)
/-- elements, where the row has them: nothing is made -/
theorem pX0_elementOf_in {h : AHp} {a k m q : Nat} {f : Nat → Int64} (hk : k < 5) (hm : m ≤ 40) (hg : aGet h a = some (rwC k m f)) (hke : keF k (f q) = f q) (hq : q < m) (hQ : Q (some (.long (f q))) h) : AMet mX0_elementOf 2 0 0 [.ref a, .int (nI q)] h Q := by
  refine AMet.ofRch rfl rfl (Nat.le_of_ble_eq_true rfl) ?_
  have hA := isA_row k hg
  have hm1 : m ≤ 1000 := by omega
  have hkq := hke
  rcases k5 hk with rfl | rfl | rfl | rfl | rfl
  · refine r_aload_n dX0_elementOf_0 rfl ?_
    refine r_callS (as := [_]) okX0_sortOf q449 dX0_elementOf_1 (Nat.le_of_ble_eq_true rfl) rfl (Nat.le_of_ble_eq_true rfl) (Nat.le_of_ble_eq_true rfl) (Nat.le_of_ble_eq_true rfl) (pX0_sortOf (by decide) hg ?_)
    refine r_tableIn 36 dX0_elementOf_4 (by decide) (by decide) rfl (by decide) ?_
    refine r_aload_n dX0_elementOf_36 rfl ?_
    refine r_castE hA q452 dX0_elementOf_37 ?_
    refine r_iload_n dX0_elementOf_40 rfl ?_
    refine r_baldN dX0_elementOf_41 hg hq hm1 ?_
    refine r_i2l dX0_elementOf_42 ?_
    exact r_lret dX0_elementOf_43 rfl (Nat.le_of_ble_eq_true rfl) (Nat.le_of_ble_eq_true rfl) (by rw [ke_i (k := 0) (by decide) hkq]; exact hQ)
  · refine r_aload_n dX0_elementOf_0 rfl ?_
    refine r_callS (as := [_]) okX0_sortOf q449 dX0_elementOf_1 (Nat.le_of_ble_eq_true rfl) rfl (Nat.le_of_ble_eq_true rfl) (Nat.le_of_ble_eq_true rfl) (Nat.le_of_ble_eq_true rfl) (pX0_sortOf (by decide) hg ?_)
    refine r_tableIn 44 dX0_elementOf_4 (by decide) (by decide) rfl (by decide) ?_
    refine r_aload_n dX0_elementOf_44 rfl ?_
    refine r_castE hA q453 dX0_elementOf_45 ?_
    refine r_iload_n dX0_elementOf_48 rfl ?_
    refine r_saldN dX0_elementOf_49 hg hq hm1 ?_
    refine r_i2l dX0_elementOf_50 ?_
    exact r_lret dX0_elementOf_51 rfl (Nat.le_of_ble_eq_true rfl) (Nat.le_of_ble_eq_true rfl) (by rw [ke_i (k := 1) (by decide) hkq]; exact hQ)
  · refine r_aload_n dX0_elementOf_0 rfl ?_
    refine r_callS (as := [_]) okX0_sortOf q449 dX0_elementOf_1 (Nat.le_of_ble_eq_true rfl) rfl (Nat.le_of_ble_eq_true rfl) (Nat.le_of_ble_eq_true rfl) (Nat.le_of_ble_eq_true rfl) (pX0_sortOf (by decide) hg ?_)
    refine r_tableIn 52 dX0_elementOf_4 (by decide) (by decide) rfl (by decide) ?_
    refine r_aload_n dX0_elementOf_52 rfl ?_
    refine r_castE hA q454 dX0_elementOf_53 ?_
    refine r_iload_n dX0_elementOf_56 rfl ?_
    refine r_ialdN dX0_elementOf_57 hg hq hm1 ?_
    refine r_i2l dX0_elementOf_58 ?_
    exact r_lret dX0_elementOf_59 rfl (Nat.le_of_ble_eq_true rfl) (Nat.le_of_ble_eq_true rfl) (by rw [ke_i (k := 2) (by decide) hkq]; exact hQ)
  · refine r_aload_n dX0_elementOf_0 rfl ?_
    refine r_callS (as := [_]) okX0_sortOf q449 dX0_elementOf_1 (Nat.le_of_ble_eq_true rfl) rfl (Nat.le_of_ble_eq_true rfl) (Nat.le_of_ble_eq_true rfl) (Nat.le_of_ble_eq_true rfl) (pX0_sortOf (by decide) hg ?_)
    refine r_tableIn 60 dX0_elementOf_4 (by decide) (by decide) rfl (by decide) ?_
    refine r_aload_n dX0_elementOf_60 rfl ?_
    refine r_castE hA q455 dX0_elementOf_61 ?_
    refine r_iload_n dX0_elementOf_64 rfl ?_
    refine r_laldN dX0_elementOf_65 hg hq hm1 ?_
    exact r_lret dX0_elementOf_66 rfl (Nat.le_of_ble_eq_true rfl) (Nat.le_of_ble_eq_true rfl) (hQ)
  · refine r_aload_n dX0_elementOf_0 rfl ?_
    refine r_callS (as := [_]) okX0_sortOf q449 dX0_elementOf_1 (Nat.le_of_ble_eq_true rfl) rfl (Nat.le_of_ble_eq_true rfl) (Nat.le_of_ble_eq_true rfl) (Nat.le_of_ble_eq_true rfl) (pX0_sortOf (by decide) hg ?_)
    refine r_tableOut 67 dX0_elementOf_4 (by decide) (by decide) ?_
    refine r_aload_n dX0_elementOf_67 rfl ?_
    refine r_castE hA q456 dX0_elementOf_68 ?_
    refine r_iload_n dX0_elementOf_71 rfl ?_
    refine r_zaldN dX0_elementOf_72 hg hq hm1 ?_
    refine r_if_eq 80 dX0_elementOf_73 (by decide) (fun c_73 => ?_) (fun c_73 => ?_)
    · refine r_lconst 0 dX0_elementOf_80 (by decide) ?_
      exact r_lret dX0_elementOf_81 rfl (Nat.le_of_ble_eq_true rfl) (Nat.le_of_ble_eq_true rfl) (by first | (rcases ke_z hkq with e | e <;> rw [e] at hQ c_73 <;> first | exact hQ | exact absurd rfl c_73 | exact absurd c_73 (by decide)))
    · refine r_lconst 1 dX0_elementOf_76 (by decide) ?_
      refine r_goto 81 dX0_elementOf_77 (by decide) ?_
      exact r_lret dX0_elementOf_81 rfl (Nat.le_of_ble_eq_true rfl) (Nat.le_of_ble_eq_true rfl) (by first | (rcases ke_z hkq with e | e <;> rw [e] at hQ c_73 <;> first | exact hQ | exact absurd rfl c_73 | exact absurd c_73 (by decide)))
def tdF (f : Nat → Int64) (k : Nat) : Nat → Int64 := fun i => if i < k then f i else 0
theorem tdF_up {f : Nat → Int64} {k : Nat} : vp_updL (tdF f k) k (f k) = tdF f (k + 1) := by
  funext j
  show (if j = k then f k else if j < k then f j else 0) = if j < k + 1 then f j else 0
  by_cases e : j = k
  · rw [if_pos e, if_pos (by omega), e]
  · rw [if_neg e]
    by_cases e2 : j < k
    · rw [if_pos e2, if_pos (by omega)]
    · rw [if_neg e2, if_neg (by omega)]
theorem in20 {z : Nat} (hz : z ≤ 20) : ¬ b2i (inB (nI z) 0 20) = 0 := b2i_n.mpr (inB_nI (N := 20) hz (by decide))
theorem pX0_toldIn_bad {h2 : List AC} {s z : Int32} {Q : OC → AHp → Prop} (hb : (inB s 0 7 && inB z 0 20) = false) (hQ : ∀ r3 g0 g1 g2 g3 g4 g5, Q (.inr (8 * r3.length + 3, "SeenInOrderOfAge$Refused")) (r0, (xC (.ref 2) iv tP tL tA tK tC tS tH tN tE tZ tf mP mf eP eT eF ef eg ew rx gx wx hv tp td rf rc ic), h2, r3 ++ [.inr (6, [g0, g1, g2, g3, g4, g5, .int (-2)])])) : AMetX mX0_toldIn 6 6 300 [.ref 1, .int s, .int z] (r0, (xC (.ref 2) iv tP tL tA tK tC tS tH tN tE tZ tf mP mf eP eT eF ef eg ew rx gx wx hv tp td rf rc ic), h2, r3) Q := by
  refine AMetX.ofRch rfl (Nat.le_of_ble_eq_true rfl) ?_
  refine r_iload_n dX0_toldIn_0 rfl ?_
  refine r_callS (as := [_]) okX0_isShelf q375 dX0_toldIn_1 (Nat.le_of_ble_eq_true rfl) rfl (Nat.le_of_ble_eq_true rfl) (Nat.le_of_ble_eq_true rfl) (Nat.le_of_ble_eq_true rfl) (pX0_isShelf ?_)
  refine r_if_eq 17 dX0_toldIn_4 (by decide) (fun c_4 => ?_) (fun c_4 => ?_)
  · refine r_new bX6 [.null, .null, .null, .null, .null, .int 0, .int 0] (by decide) (fun _ => rfl) q395 q420 q97 dX0_toldIn_17 (Nat.le_of_ble_eq_true rfl) (Nat.le_of_ble_eq_true rfl) ?_
    refine r_dup dX0_toldIn_20 rfl ?_
    refine r_bipush (-2) dX0_toldIn_21 (by decide) ?_
    refine r_callI (as := [_]) okX6_init q428 dX0_toldIn_23 (Nat.le_of_ble_eq_true rfl) rfl (Nat.le_of_ble_eq_true rfl) (Nat.le_of_ble_eq_true rfl) (Nat.le_of_ble_eq_true rfl) (pX6_init aGet_push (fun g0 g1 g2 g3 g4 g5 => ?_))
    rw [aSet_push]
    refine r_athrow dX0_toldIn_26 bX6 aGet_push ?_
    exact rt_leave rfl (Nat.le_of_ble_eq_true rfl) (Nat.le_of_ble_eq_true rfl) (hQ _ _ _ _ _ _ _)
  · refine r_iload_n dX0_toldIn_7 rfl ?_
    refine r_iconst 0 dX0_toldIn_8 (by decide) ?_
    refine r_bipush 20 dX0_toldIn_9 (by decide) ?_
    refine r_callS (as := [_, _, _]) okX0_isIn q378 dX0_toldIn_11 (Nat.le_of_ble_eq_true rfl) rfl (Nat.le_of_ble_eq_true rfl) (Nat.le_of_ble_eq_true rfl) (Nat.le_of_ble_eq_true rfl) (pX0_isIn ?_)
    refine r_if_ne 27 dX0_toldIn_14 (by decide) (fun c_14 => ?_) (fun c_14 => ?_)
    · exfalso
      rw [b2i_n.mp c_4, b2i_n.mp c_14] at hb
      cases hb
    · refine r_new bX6 [.null, .null, .null, .null, .null, .int 0, .int 0] (by decide) (fun _ => rfl) q395 q420 q97 dX0_toldIn_17 (Nat.le_of_ble_eq_true rfl) (Nat.le_of_ble_eq_true rfl) ?_
      refine r_dup dX0_toldIn_20 rfl ?_
      refine r_bipush (-2) dX0_toldIn_21 (by decide) ?_
      refine r_callI (as := [_]) okX6_init q428 dX0_toldIn_23 (Nat.le_of_ble_eq_true rfl) rfl (Nat.le_of_ble_eq_true rfl) (Nat.le_of_ble_eq_true rfl) (Nat.le_of_ble_eq_true rfl) (pX6_init aGet_push (fun g0 g1 g2 g3 g4 g5 => ?_))
      rw [aSet_push]
      refine r_athrow dX0_toldIn_26 bX6 aGet_push ?_
      exact rt_leave rfl (Nat.le_of_ble_eq_true rfl) (Nat.le_of_ble_eq_true rfl) (hQ _ _ _ _ _ _ _)
theorem pX0_toldIn_0 {h2 : List AC} {j : Nat} {Q : OC → AHp → Prop} {z : Nat} (hj : j < 8) (hz : z ≤ 20) (e1 : hv j = .null) (hQ : ∀ r3 g0 g1 g2 g3 g4 g5, Q (.inr (8 * r3.length + 3, "SeenInOrderOfAge$Refused")) (r0, (xC (.ref 2) iv tP tL tA tK tC tS tH tN tE tZ tf mP mf eP eT eF ef eg ew rx gx wx hv tp td rf rc ic), h2, r3 ++ [.inr (6, [g0, g1, g2, g3, g4, g5, .int (-4)])])) : AMetX mX0_toldIn 6 6 300 [.ref 1, .int (nI j), .int (nI z)] (r0, (xC (.ref 2) iv tP tL tA tK tC tS tH tN tE tZ tf mP mf eP eT eF ef eg ew rx gx wx hv tp td rf rc ic), h2, r3) Q := by
  refine AMetX.ofRch rfl (Nat.le_of_ble_eq_true rfl) ?_
  refine r_iload_n dX0_toldIn_0 rfl ?_
  refine r_callS (as := [_]) okX0_isShelf q375 dX0_toldIn_1 (Nat.le_of_ble_eq_true rfl) rfl (Nat.le_of_ble_eq_true rfl) (Nat.le_of_ble_eq_true rfl) (Nat.le_of_ble_eq_true rfl) (pX0_isShelf ?_)
  refine r_if_eq 17 dX0_toldIn_4 (by decide) (fun c_ => absurd c_ (in8 hj)) (fun _ => ?_)
  refine r_iload_n dX0_toldIn_7 rfl ?_
  refine r_iconst 0 dX0_toldIn_8 (by decide) ?_
  refine r_bipush 20 dX0_toldIn_9 (by decide) ?_
  refine r_callS (as := [_, _, _]) okX0_isIn q378 dX0_toldIn_11 (Nat.le_of_ble_eq_true rfl) rfl (Nat.le_of_ble_eq_true rfl) (Nat.le_of_ble_eq_true rfl) (Nat.le_of_ble_eq_true rfl) (pX0_isIn ?_)
  refine r_if_ne 27 dX0_toldIn_14 (by decide) (fun _ => ?_) (fun c_ => absurd c_ (in20 hz))
  refine r_aload_n dX0_toldIn_27 rfl ?_
  refine r_iload_n dX0_toldIn_28 rfl ?_
  refine r_xV (as := [_]) oxX0_rowIn bX0 rfl rfl q415 dX0_toldIn_29 (Nat.le_of_ble_eq_true rfl) rfl (Nat.le_of_ble_eq_true rfl) (Nat.le_of_ble_eq_true rfl) (Nat.le_of_ble_eq_true rfl) (pX0_rowIn_0 hj e1 (fun g0 g1 g2 g3 g4 g5 => ?_))
  exact rt_leave rfl (Nat.le_of_ble_eq_true rfl) (Nat.le_of_ble_eq_true rfl) (hQ _ _ _ _ _ _ _)
theorem pX0_toldIn_l {h2 : List AC} {j : Nat} {Q : OC → AHp → Prop} {z : Nat} {a c : Nat} {fs : List Value} (hj : j < 8) (hz : z ≤ 20) (e1 : hv j = .ref a) (hc : c < 6) (hg : aGet (r0, (xC (.ref 2) iv tP tL tA tK tC tS tH tN tE tZ tf mP mf eP eT eF ef eg ew rx gx wx hv tp td rf rc ic), h2, r3) a = some (.inr (7 + c, fs))) (hQ : ∀ r3 g0 g1 g2 g3 g4 g5, Q (.inr (8 * r3.length + 3, "SeenInOrderOfAge$Refused")) (r0, (xC (.ref 2) iv tP tL tA tK tC tS tH tN tE tZ tf mP mf eP eT eF ef eg ew rx gx wx hv tp td rf rc ic), h2, r3 ++ [.inr (6, [g0, g1, g2, g3, g4, g5, .int (-3)])])) : AMetX mX0_toldIn 6 6 300 [.ref 1, .int (nI j), .int (nI z)] (r0, (xC (.ref 2) iv tP tL tA tK tC tS tH tN tE tZ tf mP mf eP eT eF ef eg ew rx gx wx hv tp td rf rc ic), h2, r3) Q := by
  refine AMetX.ofRch rfl (Nat.le_of_ble_eq_true rfl) ?_
  refine r_iload_n dX0_toldIn_0 rfl ?_
  refine r_callS (as := [_]) okX0_isShelf q375 dX0_toldIn_1 (Nat.le_of_ble_eq_true rfl) rfl (Nat.le_of_ble_eq_true rfl) (Nat.le_of_ble_eq_true rfl) (Nat.le_of_ble_eq_true rfl) (pX0_isShelf ?_)
  refine r_if_eq 17 dX0_toldIn_4 (by decide) (fun c_ => absurd c_ (in8 hj)) (fun _ => ?_)
  refine r_iload_n dX0_toldIn_7 rfl ?_
  refine r_iconst 0 dX0_toldIn_8 (by decide) ?_
  refine r_bipush 20 dX0_toldIn_9 (by decide) ?_
  refine r_callS (as := [_, _, _]) okX0_isIn q378 dX0_toldIn_11 (Nat.le_of_ble_eq_true rfl) rfl (Nat.le_of_ble_eq_true rfl) (Nat.le_of_ble_eq_true rfl) (Nat.le_of_ble_eq_true rfl) (pX0_isIn ?_)
  refine r_if_ne 27 dX0_toldIn_14 (by decide) (fun _ => ?_) (fun c_ => absurd c_ (in20 hz))
  refine r_aload_n dX0_toldIn_27 rfl ?_
  refine r_iload_n dX0_toldIn_28 rfl ?_
  refine r_xV (as := [_]) oxX0_rowIn bX0 rfl rfl q415 dX0_toldIn_29 (Nat.le_of_ble_eq_true rfl) rfl (Nat.le_of_ble_eq_true rfl) (Nat.le_of_ble_eq_true rfl) (Nat.le_of_ble_eq_true rfl) (pX0_rowIn_l hj e1 hc hg (fun g0 g1 g2 g3 g4 g5 => ?_))
  exact rt_leave rfl (Nat.le_of_ble_eq_true rfl) (Nat.le_of_ble_eq_true rfl) (hQ _ _ _ _ _ _ _)
theorem dyn_at {r0 x1 h2 r3 : List AC} {c : AC} : aGet (r0, x1, h2, r3 ++ [c]) (8 * r3.length + 3) = some c := aGet_push (h := (r0, x1, h2, r3))
theorem dyn_set {r0 x1 h2 r3 : List AC} {c d : AC} : aSet (r0, x1, h2, r3 ++ [c]) (8 * r3.length + 3) d = (r0, x1, h2, r3 ++ [d]) := aSet_push (h := (r0, x1, h2, r3))
theorem dyn_other {r0 x1 h2 r3 c : List AC} {a : Nat} {x : AC} (h : aGet (r0, x1, h2, r3) a = some x) : aGet (r0, x1, h2, r3 ++ c) a = some x := by
  unfold aGet at h ⊢
  split at h
  · exact h
  · exact h
  · exact h
  · rename_i e
    rw [List.getElem?_append_left (List.getElem?_eq_some_iff.mp h).1]
    exact h
  · cases h
theorem pX0_toldIn_r {h2 : List AC} {j : Nat} {Q : OC → AHp → Prop} {a k m z : Nat} {f : Nat → Int64} (hj : j < 8) (hz : z ≤ 20) (e1 : hv j = .ref a) (hk : k < 5) (hm : m ≤ 40) (hg : aGet (r0, (xC (.ref 2) iv tP tL tA tK tC tS tH tN tE tZ tf mP mf eP eT eF ef eg ew rx gx wx hv tp td rf rc ic), h2, r3) a = some (rwC k m f)) (hke : ∀ q, q < m → keF k (f q) = f q) (hQ : 2 * z ≤ m → Q (.inl (some (.ref (8 * r3.length + 3)))) (r0, (xC (.ref 2) iv tP tL tA tK tC tS tH tN tE tZ tf mP mf eP eT eF ef eg ew rx gx wx hv tp td rf rc ic), h2, r3 ++ [.inl (.long, 2 * z, .inr (.inl (tdF f (2 * z))))])) (hN : m < 2 * z → ∀ r3 g0 g1 g2 g3 g4 g5, Q (.inr (8 * r3.length + 3, "SeenInOrderOfAge$Refused")) (r0, (xC (.ref 2) iv tP tL tA tK tC tS tH tN tE tZ tf mP mf eP eT eF ef eg ew rx gx wx hv tp td rf rc ic), h2, r3 ++ [.inr (6, [g0, g1, g2, g3, g4, g5, .int (-2)])])) : AMetX mX0_toldIn 6 6 300 [.ref 1, .int (nI j), .int (nI z)] (r0, (xC (.ref 2) iv tP tL tA tK tC tS tH tN tE tZ tf mP mf eP eT eF ef eg ew rx gx wx hv tp td rf rc ic), h2, r3) Q := by
  refine AMetX.ofRch rfl (Nat.le_of_ble_eq_true rfl) ?_
  have e2z : (2 : Int32) * nI z = nI (2 * z) := pk_mul 2 z
  have n2 : ¬ nI (2 * z) < 0 := nI_pos (by omega)
  refine r_iload_n dX0_toldIn_0 rfl ?_
  refine r_callS (as := [_]) okX0_isShelf q375 dX0_toldIn_1 (Nat.le_of_ble_eq_true rfl) rfl (Nat.le_of_ble_eq_true rfl) (Nat.le_of_ble_eq_true rfl) (Nat.le_of_ble_eq_true rfl) (pX0_isShelf ?_)
  refine r_if_eq 17 dX0_toldIn_4 (by decide) (fun c_ => absurd c_ (in8 hj)) (fun _ => ?_)
  refine r_iload_n dX0_toldIn_7 rfl ?_
  refine r_iconst 0 dX0_toldIn_8 (by decide) ?_
  refine r_bipush 20 dX0_toldIn_9 (by decide) ?_
  refine r_callS (as := [_, _, _]) okX0_isIn q378 dX0_toldIn_11 (Nat.le_of_ble_eq_true rfl) rfl (Nat.le_of_ble_eq_true rfl) (Nat.le_of_ble_eq_true rfl) (Nat.le_of_ble_eq_true rfl) (pX0_isIn ?_)
  refine r_if_ne 27 dX0_toldIn_14 (by decide) (fun _ => ?_) (fun c_ => absurd c_ (in20 hz))
  refine r_aload_n dX0_toldIn_27 rfl ?_
  refine r_iload_n dX0_toldIn_28 rfl ?_
  refine r_xV (as := [_]) oxX0_rowIn bX0 rfl rfl q415 dX0_toldIn_29 (Nat.le_of_ble_eq_true rfl) rfl (Nat.le_of_ble_eq_true rfl) (Nat.le_of_ble_eq_true rfl) (Nat.le_of_ble_eq_true rfl) (pX0_rowIn_r hj e1 hg ?_)
  refine r_astore_n dX0_toldIn_32 (Nat.le_of_ble_eq_true rfl) ?_
  refine r_iconst 2 dX0_toldIn_33 (by decide) ?_
  refine r_iload_n dX0_toldIn_34 rfl ?_
  refine r_imul dX0_toldIn_35 ?_
  rw [e2z]
  refine r_newa_long (2 * z) q389 dX0_toldIn_36 n2 (nI_clamp (by omega)) (by omega) (Nat.le_of_ble_eq_true rfl) (by show 0 + 7 + 2 * z ≤ 300; omega) ?_
  refine r_astore dX0_toldIn_38 (Nat.le_of_ble_eq_true rfl) ?_
  refine r_iconst 0 dX0_toldIn_40 (by decide) ?_
  refine r_istore dX0_toldIn_41 (Nat.le_of_ble_eq_true rfl) ?_
  show Rch (mX0_toldIn, 6, 6, 300, Q) (0 + 1 + 1) (0 + 7 + 2 * z) 43 [some (.ref 1), some (.int (nI j)), some (.int (nI z)), some (.ref a), some (.ref (8 * r3.length + 3)), some (.int (nI 0))] [] (r0, (xC (.ref 2) iv tP tL tA tK tC tS tH tN tE tZ tf mP mf eP eT eF ef eg ew rx gx wx hv tp td rf rc ic), h2, r3 ++ [.inl (.long, 2 * z, .inr (.inl (tdF f 0)))])
  by_cases hmz : m < 2 * z
  · have hq := hN hmz
    refine loopUp (N := m) (P := fun k => Rch (mX0_toldIn, 6, 6, 300, Q) (0 + 1 + 1) (0 + 7 + 2 * z) 43 [some (.ref 1), some (.int (nI j)), some (.int (nI z)), some (.ref a), some (.ref (8 * r3.length + 3)), some (.int (nI k))] [] (r0, (xC (.ref 2) iv tP tL tA tK tC tS tH tN tE tZ tf mP mf eP eT eF ef eg ew rx gx wx hv tp td rf rc ic), h2, r3 ++ [.inl (.long, 2 * z, .inr (.inl (tdF f k)))])) ?_ ?_
    · have eb : ¬ nI (2 * z) ≤ nI m := nI_ge hmz (by omega)
      refine r_iload dX0_toldIn_43 rfl ?_
      refine r_aload dX0_toldIn_45 rfl ?_
      refine r_alen dX0_toldIn_47 dyn_at 1 rfl ?_
      refine r_icmp_ge 68 dX0_toldIn_48 (by decide) (fun c_ => absurd c_ (eb)) (fun _ => ?_)
      refine r_aload dX0_toldIn_51 rfl ?_
      refine r_iload dX0_toldIn_53 rfl ?_
      refine r_aload_n dX0_toldIn_55 rfl ?_
      refine r_iload dX0_toldIn_56 rfl ?_
      refine r_xS (as := [_, _]) oxX0_elementOf q508 dX0_toldIn_58 (Nat.le_of_ble_eq_true rfl) rfl (Nat.le_of_ble_eq_true rfl) (Nat.le_of_ble_eq_true rfl) (by show 0 + 7 + 2 * z + 222 ≤ 300; omega) (pX0_elementOf hk hm (dyn_other hg) hke (fun q hq2 eq => ?_) (fun hi => ?_))
      · exact absurd eq (not_in hm (fun z2 => (by have := z2; rw [vp_in_iff, nI_toInt (by omega)] at this; omega)) q hq2)
      · refine rt_catch (hp := 71) (fun G hG => srY (by decide) (by decide) q396 q411) ?_
        refine r_astore dX0_toldIn_71 (Nat.le_of_ble_eq_true rfl) ?_
        refine r_new bX6 [.null, .null, .null, .null, .null, .int 0, .int 0] (by decide) (fun _ => rfl) q395 q420 q97 dX0_toldIn_73 (Nat.le_of_ble_eq_true rfl) (by show 0 + 7 + 2 * z + 222 + 7 ≤ 300; omega) ?_
        refine r_dup dX0_toldIn_76 rfl ?_
        refine r_bipush (-2) dX0_toldIn_77 (by decide) ?_
        refine r_callI (as := [_]) okX6_init q428 dX0_toldIn_79 (Nat.le_of_ble_eq_true rfl) rfl (Nat.le_of_ble_eq_true rfl) (Nat.le_of_ble_eq_true rfl) (by show 0 + 7 + 2 * z + 222 + 7 ≤ 300; omega) (pX6_init aGet_push (fun g0 g1 g2 g3 g4 g5 => ?_))
        rw [aSet_push]
        refine r_athrow dX0_toldIn_82 bX6 aGet_push ?_
        exact rt_leave rfl (Nat.le_of_ble_eq_true rfl) (by show 0 + 7 + 2 * z + 222 + 7 + 0 ≤ 300; omega) (hq _ _ _ _ _ _ _)
    · intro k2 hk2 ih
      have eb : ¬ nI (2 * z) ≤ nI k2 := nI_ge (by omega) (by omega)
      refine r_iload dX0_toldIn_43 rfl ?_
      refine r_aload dX0_toldIn_45 rfl ?_
      refine r_alen dX0_toldIn_47 dyn_at 1 rfl ?_
      refine r_icmp_ge 68 dX0_toldIn_48 (by decide) (fun c_ => absurd c_ (eb)) (fun _ => ?_)
      refine r_aload dX0_toldIn_51 rfl ?_
      refine r_iload dX0_toldIn_53 rfl ?_
      refine r_aload_n dX0_toldIn_55 rfl ?_
      refine r_iload dX0_toldIn_56 rfl ?_
      refine r_callS (as := [_, _]) okX0_elementOf q508 dX0_toldIn_58 (Nat.le_of_ble_eq_true rfl) rfl (Nat.le_of_ble_eq_true rfl) (Nat.le_of_ble_eq_true rfl) (by show 0 + 7 + 2 * z + 0 ≤ 300; omega) (pX0_elementOf_in hk hm (dyn_other hg) (hke _ hk2) hk2 ?_)
      refine r_lastN dX0_toldIn_61 dyn_at (by omega) (by omega) ?_
      rw [dyn_set, tdF_up]
      refine r_iincV dX0_toldIn_62 rfl (Nat.le_of_ble_eq_true rfl) (incN _) ?_
      refine r_goto 43 dX0_toldIn_65 (by decide) ?_
      exact ih
  · have hq := hQ (by omega)
    refine loopUp (N := 2 * z) (P := fun k => Rch (mX0_toldIn, 6, 6, 300, Q) (0 + 1 + 1) (0 + 7 + 2 * z) 43 [some (.ref 1), some (.int (nI j)), some (.int (nI z)), some (.ref a), some (.ref (8 * r3.length + 3)), some (.int (nI k))] [] (r0, (xC (.ref 2) iv tP tL tA tK tC tS tH tN tE tZ tf mP mf eP eT eF ef eg ew rx gx wx hv tp td rf rc ic), h2, r3 ++ [.inl (.long, 2 * z, .inr (.inl (tdF f k)))])) ?_ ?_
    · refine r_iload dX0_toldIn_43 rfl ?_
      refine r_aload dX0_toldIn_45 rfl ?_
      refine r_alen dX0_toldIn_47 dyn_at 1 rfl ?_
      refine r_icmp_ge 68 dX0_toldIn_48 (by decide) (fun _ => ?_) (fun c_ => absurd (Int32.le_refl _) c_)
      refine r_goto 83 dX0_toldIn_68 (by decide) ?_
      refine r_aload dX0_toldIn_83 rfl ?_
      exact r_aret dX0_toldIn_85 rfl (by first | exact Or.inl ⟨_, rfl⟩ | exact Or.inr ⟨_, rfl⟩) (Nat.le_of_ble_eq_true rfl) (by show 0 + 7 + 2 * z ≤ 300; omega) (hq)
    · intro k2 hk2 ih
      have eb : ¬ nI (2 * z) ≤ nI k2 := nI_ge (by omega) (by omega)
      refine r_iload dX0_toldIn_43 rfl ?_
      refine r_aload dX0_toldIn_45 rfl ?_
      refine r_alen dX0_toldIn_47 dyn_at 1 rfl ?_
      refine r_icmp_ge 68 dX0_toldIn_48 (by decide) (fun c_ => absurd c_ (eb)) (fun _ => ?_)
      refine r_aload dX0_toldIn_51 rfl ?_
      refine r_iload dX0_toldIn_53 rfl ?_
      refine r_aload_n dX0_toldIn_55 rfl ?_
      refine r_iload dX0_toldIn_56 rfl ?_
      refine r_callS (as := [_, _]) okX0_elementOf q508 dX0_toldIn_58 (Nat.le_of_ble_eq_true rfl) rfl (Nat.le_of_ble_eq_true rfl) (Nat.le_of_ble_eq_true rfl) (by show 0 + 7 + 2 * z + 0 ≤ 300; omega) (pX0_elementOf_in hk hm (dyn_other hg) (hke _ (by omega)) (by omega) ?_)
      refine r_lastN dX0_toldIn_61 dyn_at (by omega) (by omega) ?_
      rw [dyn_set, tdF_up]
      refine r_iincV dX0_toldIn_62 rfl (Nat.le_of_ble_eq_true rfl) (incN _) ?_
      refine r_goto 43 dX0_toldIn_65 (by decide) ?_
      exact ih
end XX
