set_option maxRecDepth 100000
/-! the component: who it was, sorts, ranks -/
theorem absorb (a b : Int32) : (a &&& b) ||| b = b := by
  apply Int32.toBitVec_inj.mp
  show (a.toBitVec &&& b.toBitVec) ||| b.toBitVec = b.toBitVec
  ext i hi
  simp only [BitVec.getElem_or, BitVec.getElem_and]
  cases a.toBitVec[i] <;> cases b.toBitVec[i] <;> rfl
theorem m1_or (b : Int32) : (-1 : Int32) ||| b = -1 := by
  have h : (-1 : Int32) &&& b = b := Int32.neg_one_and
  have h2 := absorb b (-1)
  rw [Int32.and_comm, h, Int32.or_comm] at h2
  exact h2
theorem an_m1 {a b : Int32} (h : a &&& b = -1) : b = -1 := by
  have h2 := absorb a b
  rw [h, m1_or] at h2
  exact h2.symm
def anU (c : Nat → Bool) (a : Int32) : Nat → Int32
  | 0 => a
  | k + 1 => if c k = true then anU c a k &&& nI k else anU c a k
def orU (c : Nat → Bool) : Nat → Int32
  | 0 => 0
  | k + 1 => if c k = true then orU c k ||| nI k else orU c k
theorem cn_U {c : Nat → Bool} : ∀ q k, cntI c (k + q) = cntI c k + cnG c q k
  | 0, k => rfl
  | q + 1, k => by
    have ih := cn_U (c := c) q (k + 1)
    rw [show k + (q + 1) = k + 1 + q by omega, ih]
    simp only [cntI, cnG]
    omega
theorem or_U {c : Nat → Bool} : ∀ q k, orU c (k + q) = orU c k ||| orG c q k
  | 0, k => (or0 _).symm
  | q + 1, k => by
    have ih := or_U (c := c) q (k + 1)
    rw [show k + (q + 1) = k + 1 + q by omega, ih]
    simp only [orU, orG]
    split
    · rw [Int32.or_assoc, Int32.or_comm (nI k)]
    · rfl
theorem an_0 {c : Nat → Bool} : ∀ q k, k + q < 2 ^ 31 → (anG c q k = -1 ↔ cnG c q k = 0)
  | 0, k, _ => ⟨fun _ => rfl, fun _ => rfl⟩
  | q + 1, k, h => by
    have ih := an_0 (c := c) q (k + 1) (by omega)
    simp only [anG, cnG]
    by_cases g : c k = true
    · rw [if_pos g, if_pos g]
      constructor
      · intro z
        exfalso
        split at z
        · exact nI_m1 (by omega) z
        · exact nI_m1 (by omega) (an_m1 z)
      · intro z
        omega
    · rw [if_neg g, if_neg g]
      exact ih
theorem alz_tab : (List.range 9).all (fun n => (List.range (2 ^ n)).all (fun z => decide (allS n &&& nI z = nI z))) = true := by decide +kernel
theorem al_nI {n k : Nat} (hn : n ≤ 8) (hk : k < 2 ^ n) : allS n &&& nI k = nI k := by
  have h1 := List.all_eq_true.mp alz_tab n (List.mem_range.mpr (by omega))
  exact of_decide_eq_true (List.all_eq_true.mp h1 k (List.mem_range.mpr hk))
theorem wh_2 {w : Int32} (h : inB w 0 3 = true) (h0 : ¬ w = 0) (h1 : ¬ w = 1) (h3 : ¬ w = 3) : w = 2 := by
  obtain ⟨z, hz, rfl⟩ := inB_ex 3 (by decide) h
  rcases (show z = 0 ∨ z = 1 ∨ z = 2 ∨ z = 3 by omega) with rfl | rfl | rfl | rfl
  · exact absurd rfl h0
  · exact absurd rfl h1
  · rfl
  · exact absurd rfl h3
theorem ite_fst {c : Nat → Bool} {k : Nat} : (if cntI c k = 0 then -1 else fstI c k) = fstI c k := by
  split
  · rename_i g
    rcases fstI_cases c k with ⟨e, -⟩ | ⟨q, hq, hc, e, -⟩
    · exact e.symm
    · exfalso
      have := cntI_drop (c := c) (d := fun j => if j = q then false else c j) (q := q) hc (by simp) (fun j hj => by simp [hj]) k hq
      omega
  · rfl
theorem an_all {c : Nat → Bool} {n : Nat} (hn : n ≤ 8) : ∀ q k, k + q ≤ 2 ^ n → cnG c q k ≠ 0 → allS n &&& anG c q k = anG c q k
  | 0, k, _, h => absurd rfl h
  | q + 1, k, hk, h => by
    have h8 := p2_le hn
    have ih := an_all (c := c) hn q (k + 1) (by omega)
    have hb : allS n &&& nI k = nI k := al_nI hn (by omega)
    simp only [anG]
    by_cases g : c k = true
    · rw [if_pos g]
      by_cases g2 : anG c q (k + 1) = -1
      · rw [if_pos g2]; exact hb
      · rw [if_neg g2, ← Int32.and_assoc, ih (fun z => g2 ((an_0 q (k + 1) (by omega)).mpr z))]
    · rw [if_neg g]
      refine ih ?_
      simp only [cnG, if_neg g] at h
      exact h
theorem an_U {c : Nat → Bool} {a : Int32} : ∀ q k, k + q < 2 ^ 31 → anU c a (k + q) = if cnG c q k = 0 then anU c a k else anU c a k &&& anG c q k
  | 0, k, _ => by simp [cnG]
  | q + 1, k, h => by
    have ih := an_U (c := c) (a := a) q (k + 1) (by omega)
    have i0 := an_0 (c := c) q (k + 1) (by omega)
    rw [show k + (q + 1) = k + 1 + q by omega, ih]
    by_cases g : c k = true
    · have a1 : cnG c (q + 1) k = cnG c q (k + 1) + 1 := by simp only [cnG, g, if_true]
      have a2 : anU c a (k + 1) = anU c a k &&& nI k := if_pos g
      have a3 : anG c (q + 1) k = if anG c q (k + 1) = -1 then nI k else anG c q (k + 1) &&& nI k := if_pos g
      rw [a1, a2, a3, if_neg (show ¬ cnG c q (k + 1) + 1 = 0 by omega)]
      by_cases g2 : cnG c q (k + 1) = 0
      · rw [if_pos g2, if_pos (i0.mpr g2)]
      · rw [if_neg g2, if_neg (fun z => g2 (i0.mp z)), Int32.and_assoc, Int32.and_comm (nI k)]
    · have a1 : cnG c (q + 1) k = cnG c q (k + 1) := by simp only [cnG, if_neg g, Nat.add_zero]
      have a2 : anU c a (k + 1) = anU c a k := if_neg g
      have a3 : anG c (q + 1) k = anG c q (k + 1) := if_neg g
      rw [a1, a2, a3]
theorem fst_cn {c : Nat → Bool} : ∀ k, fstI c (k + 1) = if cntI c k = 0 then (if c k = true then nI k else -1) else fstI c k := by
  intro k
  rcases fstI_cases c k with ⟨e, h⟩ | ⟨q, hq, hc, e, h⟩
  · rw [if_pos (cntI_0 k h)]
    rcases fstI_cases c (k + 1) with ⟨e2, h2⟩ | ⟨q2, hq2, hc2, e2, h2⟩
    · rw [e2, if_neg (by rw [h2 k (by omega)]; decide)]
    · have : q2 = k := by
        by_cases z : q2 < k
        · rw [h q2 z] at hc2; cases hc2
        · omega
      subst this
      rw [e2, if_pos hc2]
  · have h0 : cntI c k ≠ 0 := by
      intro z
      have := cntI_drop (c := c) (d := fun j => if j = q then false else c j) (q := q) hc (by simp) (fun j hj => by simp [hj]) k hq
      omega
    rw [if_neg h0, e]
    rcases fstI_cases c (k + 1) with ⟨e2, h2⟩ | ⟨q2, hq2, hc2, e2, h2⟩
    · rw [h2 q (by omega)] at hc; cases hc
    · rw [e2]
      congr 1
      by_cases z : q2 < q
      · rw [h q2 z] at hc2; cases hc2
      · by_cases z2 : q < q2
        · rw [h2 q z2] at hc; cases hc
        · omega
section XX
variable {iv : Value} {tP : Nat → Int32} {tL : Nat → Option Nat} {tA tK tC tS tH : Nat → Int32} {tN tE tZ tf : Int32} {mP : Nat → Int32} {mf : Int32} {eP eT eF : Nat → Int32} {ef eg : Int32} {ew : Value} {rx gx wx : Nat → Int32} {hv : Nat → Value} {tp : Nat → Int32} {td : Int32} {rf : Nat → Int32} {rc ic : Nat → AC} {th : Nat → Int32} {pf : Int32} {nl : Nat → Option Nat} {ag lk co sh hs : Nat → Int32} {my ev se : Int32} {lc : Nat → AC} {r0 r3 : List AC} {Q : Option Value → AHp → Prop} {n : Nat} {kN : Nat → Nat} {ow : Nat → Int32}
theorem pX0_who {t w : Int32} (hn : n ≤ 8) (hL : LkI lc r3 nl kN ow n) (hP : ThI th) (hbad : (inB t 0 4095 && inB w 0 3) = false → Q (some (.int (-2))) (r0, (xC (.ref 2) iv tP tL tA tK tC tS tH tN tE tZ tf mP mf eP eT eF ef eg ew rx gx wx hv tp td (upd rf 2 (rf 2 + 1)) rc ic), (wC th pf nl ag lk co sh hs (nI n) ev se lc), r3)) (hok : inB t 0 4095 = true → inB w 0 3 = true → ∀ (eP eT eF : Nat → Int32) (ef eg : Int32) (ew : Value), Q (some (.int (if w = 0 then nI (cnG (fun k => leF kN ow lk ag n th (nI k) == t) (2 ^ n) 0) else if w = 1 then fstI (fun k => leF kN ow lk ag n th (nI k) == t) (2 ^ n) else if w = 2 then anG (fun k => leF kN ow lk ag n th (nI k) == t) (2 ^ n) 0 else orG (fun k => leF kN ow lk ag n th (nI k) == t) (2 ^ n) 0))) (r0, (xC (.ref 2) iv tP tL tA tK tC tS tH tN tE tZ tf mP mf eP eT eF ef eg ew rx gx wx hv tp td rf rc ic), (wC th pf nl ag lk co sh hs (nI n) ev se lc), r3)) : AMet mX0_who 10 0 0 [.ref 1, .int t, .int w] (r0, (xC (.ref 2) iv tP tL tA tK tC tS tH tN tE tZ tf mP mf eP eT eF ef eg ew rx gx wx hv tp td rf rc ic), (wC th pf nl ag lk co sh hs (nI n) ev se lc), r3) Q := by
  refine AMet.ofRch rfl rfl (Nat.le_of_ble_eq_true rfl) ?_
  have h2 := p2_le hn
  have h3 := p2_pos n
  have hgo : inB t 0 4095 = true → inB w 0 3 = true → Rch (mX0_who, 10, 0, 0, oQ Q) 0 0 27 [some (.ref 1), some (.int t), some (.int w), none, none, none, none, none] [] (r0, (xC (.ref 2) iv tP tL tA tK tC tS tH tN tE tZ tf mP mf eP eT eF ef eg ew rx gx wx hv tp td rf rc ic), (wC th pf nl ag lk co sh hs (nI n) ev se lc), r3) := by
    intro g1 g2
    refine r_iconst 0 dX0_who_27 (by decide) ?_
    refine r_istore_n dX0_who_28 (Nat.le_of_ble_eq_true rfl) ?_
    refine r_iconst (-1) dX0_who_29 (by decide) ?_
    refine r_istore dX0_who_30 (Nat.le_of_ble_eq_true rfl) ?_
    refine r_aload_n dX0_who_32 rfl ?_
    refine r_get bX0 0 (by decide) q246 dX0_who_33 rfl rfl ?_
    refine r_callV (as := []) okX1_everybody bX1 rfl rfl q1223 dX0_who_36 (Nat.le_of_ble_eq_true rfl) rfl (Nat.le_of_ble_eq_true rfl) (Nat.le_of_ble_eq_true rfl) (Nat.le_of_ble_eq_true rfl) (pX1_everybody rfl ?_)
    rw [shl1m hn]
    refine r_istore dX0_who_39 (Nat.le_of_ble_eq_true rfl) ?_
    refine r_iconst 0 dX0_who_41 (by decide) ?_
    refine r_istore dX0_who_42 (Nat.le_of_ble_eq_true rfl) ?_
    refine r_iconst 0 dX0_who_44 (by decide) ?_
    refine r_istore dX0_who_45 (Nat.le_of_ble_eq_true rfl) ?_
    have hq := hok g1 g2
    generalize hc : (fun k => leF kN ow lk ag n th (nI k) == t) = c at hq
    have hc2 : ∀ k, (leF kN ow lk ag n th (nI k) == t) = c k := fun k => congrFun hc k
    refine loopUp (N := 2 ^ n) (P := fun k => ∀ (eP eT eF : Nat → Int32) (ef eg : Int32) (ew : Value), Rch (mX0_who, 10, 0, 0, oQ Q) 0 0 47 [some (.ref 1), some (.int t), some (.int w), some (.int (nI (cntI c k))), some (.int (fstI c k)), some (.int (anU c (allS n) k)), some (.int (orU c k)), some (.int (nI k))] [] (r0, (xC (.ref 2) iv tP tL tA tK tC tS tH tN tE tZ tf mP mf eP eT eF ef eg ew rx gx wx hv tp td rf rc ic), (wC th pf nl ag lk co sh hs (nI n) ev se lc), r3)) ?_ ?_ _ _ _ _ _ _
    · intro eP eT eF ef eg ew
      have e1 := cn_U (c := c) (2 ^ n) 0
      have e2 := or_U (c := c) (2 ^ n) 0
      have e3 := an_U (c := c) (a := allS n) (2 ^ n) 0 (by omega)
      have e4 := an_all (c := c) hn (2 ^ n) 0 (by omega)
      have e5 := an_0 (c := c) (2 ^ n) 0 (by omega)
      rw [Nat.zero_add] at e1 e2 e3
      have e1 : cntI c (2 ^ n) = cnG c (2 ^ n) 0 := by rw [e1]; exact Nat.zero_add _
      have e2 : orU c (2 ^ n) = orG c (2 ^ n) 0 := by rw [e2]; exact Int32.zero_or
      have e6 := cntI_le c (2 ^ n)
      refine r_iload dX0_who_47 rfl ?_
      refine r_aload_n dX0_who_49 rfl ?_
      refine r_get bX0 0 (by decide) q246 dX0_who_50 rfl rfl ?_
      refine r_callV (as := []) okX1_everybody bX1 rfl rfl q1223 dX0_who_53 (Nat.le_of_ble_eq_true rfl) rfl (Nat.le_of_ble_eq_true rfl) (Nat.le_of_ble_eq_true rfl) (Nat.le_of_ble_eq_true rfl) (pX1_everybody rfl ?_)
      rw [shl1m hn]
      refine r_icmp_gt 115 dX0_who_56 (by decide) (fun _ => ?_) (fun c_ => absurd (nI_lt (by omega) (by omega)) c_)
      refine r_iload_n dX0_who_115 rfl ?_
      refine r_if_ne 123 dX0_who_116 (by decide) (fun c_116 => ?_) (fun c_116 => ?_)
      · refine r_iload_n dX0_who_123 rfl ?_
        refine r_iconst 1 dX0_who_124 (by decide) ?_
        refine r_icmp_ne 133 dX0_who_125 (by decide) (fun c_125 => ?_) (fun c_125 => ?_)
        · refine r_iload_n dX0_who_133 rfl ?_
          refine r_iconst 3 dX0_who_134 (by decide) ?_
          refine r_icmp_ne 143 dX0_who_135 (by decide) (fun c_135 => ?_) (fun c_135 => ?_)
          · refine r_iload_n dX0_who_143 rfl ?_
            refine r_if_ne 151 dX0_who_144 (by decide) (fun c_144 => ?_) (fun c_144 => ?_)
            · refine r_iload dX0_who_151 rfl ?_
              exact r_iret dX0_who_153 rfl (Nat.le_of_ble_eq_true rfl) (Nat.le_of_ble_eq_true rfl) (qi (by first | (rw [if_pos c_116, e1]) | (rw [if_neg c_116, if_pos c_125]) | (rw [if_neg c_116, if_neg c_125, if_neg (fun z => by rw [c_135] at z; exact absurd z (by decide)), e2]) | (have q0 : cnG c (2 ^ n) 0 = 0 := (by rw [← e1]; exact (nI_eq (b := 0) (by omega) (by omega)).mp c_144); rw [if_neg c_116, if_neg c_125, if_pos (wh_2 g2 c_116 c_125 c_135), e5.mpr q0]) | (have q0 : ¬ cnG c (2 ^ n) 0 = 0 := (fun z => c_144 (by rw [e1, z]; rfl)); rw [if_neg c_116, if_neg c_125, if_pos (wh_2 g2 c_116 c_125 c_135), e3, if_neg q0]; exact e4 q0)) (hq _ _ _ _ _ _))
            · refine r_iconst (-1) dX0_who_147 (by decide) ?_
              refine r_goto 153 dX0_who_148 (by decide) ?_
              exact r_iret dX0_who_153 rfl (Nat.le_of_ble_eq_true rfl) (Nat.le_of_ble_eq_true rfl) (qi (by first | (rw [if_pos c_116, e1]) | (rw [if_neg c_116, if_pos c_125]) | (rw [if_neg c_116, if_neg c_125, if_neg (fun z => by rw [c_135] at z; exact absurd z (by decide)), e2]) | (have q0 : cnG c (2 ^ n) 0 = 0 := (by rw [← e1]; exact (nI_eq (b := 0) (by omega) (by omega)).mp c_144); rw [if_neg c_116, if_neg c_125, if_pos (wh_2 g2 c_116 c_125 c_135), e5.mpr q0]) | (have q0 : ¬ cnG c (2 ^ n) 0 = 0 := (fun z => c_144 (by rw [e1, z]; rfl)); rw [if_neg c_116, if_neg c_125, if_pos (wh_2 g2 c_116 c_125 c_135), e3, if_neg q0]; exact e4 q0)) (hq _ _ _ _ _ _))
          · refine r_iload dX0_who_138 rfl ?_
            refine r_goto 153 dX0_who_140 (by decide) ?_
            exact r_iret dX0_who_153 rfl (Nat.le_of_ble_eq_true rfl) (Nat.le_of_ble_eq_true rfl) (qi (by first | (rw [if_pos c_116, e1]) | (rw [if_neg c_116, if_pos c_125]) | (rw [if_neg c_116, if_neg c_125, if_neg (fun z => by rw [c_135] at z; exact absurd z (by decide)), e2]) | (have q0 : cnG c (2 ^ n) 0 = 0 := (by rw [← e1]; exact (nI_eq (b := 0) (by omega) (by omega)).mp c_144); rw [if_neg c_116, if_neg c_125, if_pos (wh_2 g2 c_116 c_125 c_135), e5.mpr q0]) | (have q0 : ¬ cnG c (2 ^ n) 0 = 0 := (fun z => c_144 (by rw [e1, z]; rfl)); rw [if_neg c_116, if_neg c_125, if_pos (wh_2 g2 c_116 c_125 c_135), e3, if_neg q0]; exact e4 q0)) (hq _ _ _ _ _ _))
        · refine r_iload dX0_who_128 rfl ?_
          refine r_goto 153 dX0_who_130 (by decide) ?_
          exact r_iret dX0_who_153 rfl (Nat.le_of_ble_eq_true rfl) (Nat.le_of_ble_eq_true rfl) (qi (by first | (rw [if_pos c_116, e1]) | (rw [if_neg c_116, if_pos c_125]) | (rw [if_neg c_116, if_neg c_125, if_neg (fun z => by rw [c_135] at z; exact absurd z (by decide)), e2]) | (have q0 : cnG c (2 ^ n) 0 = 0 := (by rw [← e1]; exact (nI_eq (b := 0) (by omega) (by omega)).mp c_144); rw [if_neg c_116, if_neg c_125, if_pos (wh_2 g2 c_116 c_125 c_135), e5.mpr q0]) | (have q0 : ¬ cnG c (2 ^ n) 0 = 0 := (fun z => c_144 (by rw [e1, z]; rfl)); rw [if_neg c_116, if_neg c_125, if_pos (wh_2 g2 c_116 c_125 c_135), e3, if_neg q0]; exact e4 q0)) (hq _ _ _ _ _ _))
      · refine r_iload_n dX0_who_119 rfl ?_
        refine r_goto 153 dX0_who_120 (by decide) ?_
        exact r_iret dX0_who_153 rfl (Nat.le_of_ble_eq_true rfl) (Nat.le_of_ble_eq_true rfl) (qi (by first | (rw [if_pos c_116, e1]) | (rw [if_neg c_116, if_pos c_125]) | (rw [if_neg c_116, if_neg c_125, if_neg (fun z => by rw [c_135] at z; exact absurd z (by decide)), e2]) | (have q0 : cnG c (2 ^ n) 0 = 0 := (by rw [← e1]; exact (nI_eq (b := 0) (by omega) (by omega)).mp c_144); rw [if_neg c_116, if_neg c_125, if_pos (wh_2 g2 c_116 c_125 c_135), e5.mpr q0]) | (have q0 : ¬ cnG c (2 ^ n) 0 = 0 := (fun z => c_144 (by rw [e1, z]; rfl)); rw [if_neg c_116, if_neg c_125, if_pos (wh_2 g2 c_116 c_125 c_135), e3, if_neg q0]; exact e4 q0)) (hq _ _ _ _ _ _))
    · intro k hk2 ih eP eT eF ef eg ew
      have e6 := cntI_le c k
      have e7 := fst_cn (c := c) k
      refine r_iload dX0_who_47 rfl ?_
      refine r_aload_n dX0_who_49 rfl ?_
      refine r_get bX0 0 (by decide) q246 dX0_who_50 rfl rfl ?_
      refine r_callV (as := []) okX1_everybody bX1 rfl rfl q1223 dX0_who_53 (Nat.le_of_ble_eq_true rfl) rfl (Nat.le_of_ble_eq_true rfl) (Nat.le_of_ble_eq_true rfl) (Nat.le_of_ble_eq_true rfl) (pX1_everybody rfl ?_)
      rw [shl1m hn]
      refine r_icmp_gt 115 dX0_who_56 (by decide) (fun c_ => absurd c_ (nI_nlt (by omega) (by omega))) (fun _ => ?_)
      refine r_aload_n dX0_who_59 rfl ?_
      refine r_get bX0 4 (by decide) q250 dX0_who_60 rfl rfl ?_
      refine r_aload_n dX0_who_63 rfl ?_
      refine r_get bX0 0 (by decide) q246 dX0_who_64 rfl rfl ?_
      refine r_iload dX0_who_67 rfl ?_
      refine r_callV (as := [_, _]) okX3_of bX3 rfl rfl q547 dX0_who_69 (Nat.le_of_ble_eq_true rfl) rfl (Nat.le_of_ble_eq_true rfl) (Nat.le_of_ble_eq_true rfl) (Nat.le_of_ble_eq_true rfl) (pX3_of_n hn hL hP (fun ef2 => ?_))
      refine r_callV (as := []) okX3_left bX3 rfl rfl q1227 dX0_who_72 (Nat.le_of_ble_eq_true rfl) rfl (Nat.le_of_ble_eq_true rfl) (Nat.le_of_ble_eq_true rfl) (Nat.le_of_ble_eq_true rfl) (pX3_left rfl rfl rfl ?_)
      refine r_iload_n dX0_who_75 rfl ?_
      refine r_icmp_ne 109 dX0_who_76 (by decide) (fun c_76 => ?_) (fun c_76 => ?_)
      · refine r_iincV dX0_who_109 rfl (Nat.le_of_ble_eq_true rfl) (incN _) ?_
        refine r_goto 47 dX0_who_112 (by decide) ?_
        first | (have q1 : c k = false := (by rw [← hc2]; exact beq_eq_false_iff_ne.mpr c_76); rw [e7, q1] at ih; simp only [cntI, anU, orU, q1, Bool.false_eq_true, if_false, Nat.add_zero] at ih; first | exact ih _ _ _ _ _ _ | (rw [ite_fst] at ih; exact ih _ _ _ _ _ _)) | (have q1 : c k = true := (by rw [← hc2]; exact beq_iff_eq.mpr c_76); have q2 : cntI c k = 0 := (nI_eq (b := 0) (by omega) (by omega)).mp c_80; rw [e7, if_pos q2, if_pos q1] at ih; simp only [cntI, anU, orU, q1, if_true] at ih; exact ih _ _ _ _ _ _) | (have q1 : c k = true := (by rw [← hc2]; exact beq_iff_eq.mpr c_76); have q2 : ¬ cntI c k = 0 := (fun z => c_80 (by rw [z]; rfl)); rw [e7, if_neg q2] at ih; simp only [cntI, anU, orU, q1, if_true] at ih; exact ih _ _ _ _ _ _)
      · refine r_iload_n dX0_who_79 rfl ?_
        refine r_if_ne 88 dX0_who_80 (by decide) (fun c_80 => ?_) (fun c_80 => ?_)
        · refine r_iload dX0_who_88 rfl ?_
          refine r_istore dX0_who_90 (Nat.le_of_ble_eq_true rfl) ?_
          refine r_iincV dX0_who_92 rfl (Nat.le_of_ble_eq_true rfl) (incN _) ?_
          refine r_iload dX0_who_95 rfl ?_
          refine r_iload dX0_who_97 rfl ?_
          refine r_iand dX0_who_99 ?_
          refine r_istore dX0_who_100 (Nat.le_of_ble_eq_true rfl) ?_
          refine r_iload dX0_who_102 rfl ?_
          refine r_iload dX0_who_104 rfl ?_
          refine r_ior dX0_who_106 ?_
          refine r_istore dX0_who_107 (Nat.le_of_ble_eq_true rfl) ?_
          refine r_iincV dX0_who_109 rfl (Nat.le_of_ble_eq_true rfl) (incN _) ?_
          refine r_goto 47 dX0_who_112 (by decide) ?_
          first | (have q1 : c k = false := (by rw [← hc2]; exact beq_eq_false_iff_ne.mpr c_76); rw [e7, q1] at ih; simp only [cntI, anU, orU, q1, Bool.false_eq_true, if_false, Nat.add_zero] at ih; first | exact ih _ _ _ _ _ _ | (rw [ite_fst] at ih; exact ih _ _ _ _ _ _)) | (have q1 : c k = true := (by rw [← hc2]; exact beq_iff_eq.mpr c_76); have q2 : cntI c k = 0 := (nI_eq (b := 0) (by omega) (by omega)).mp c_80; rw [e7, if_pos q2, if_pos q1] at ih; simp only [cntI, anU, orU, q1, if_true] at ih; exact ih _ _ _ _ _ _) | (have q1 : c k = true := (by rw [← hc2]; exact beq_iff_eq.mpr c_76); have q2 : ¬ cntI c k = 0 := (fun z => c_80 (by rw [z]; rfl)); rw [e7, if_neg q2] at ih; simp only [cntI, anU, orU, q1, if_true] at ih; exact ih _ _ _ _ _ _)
        · refine r_iload dX0_who_83 rfl ?_
          refine r_goto 90 dX0_who_85 (by decide) ?_
          refine r_istore dX0_who_90 (Nat.le_of_ble_eq_true rfl) ?_
          refine r_iincV dX0_who_92 rfl (Nat.le_of_ble_eq_true rfl) (incN _) ?_
          refine r_iload dX0_who_95 rfl ?_
          refine r_iload dX0_who_97 rfl ?_
          refine r_iand dX0_who_99 ?_
          refine r_istore dX0_who_100 (Nat.le_of_ble_eq_true rfl) ?_
          refine r_iload dX0_who_102 rfl ?_
          refine r_iload dX0_who_104 rfl ?_
          refine r_ior dX0_who_106 ?_
          refine r_istore dX0_who_107 (Nat.le_of_ble_eq_true rfl) ?_
          refine r_iincV dX0_who_109 rfl (Nat.le_of_ble_eq_true rfl) (incN _) ?_
          refine r_goto 47 dX0_who_112 (by decide) ?_
          first | (have q1 : c k = false := (by rw [← hc2]; exact beq_eq_false_iff_ne.mpr c_76); rw [e7, q1] at ih; simp only [cntI, anU, orU, q1, Bool.false_eq_true, if_false, Nat.add_zero] at ih; first | exact ih _ _ _ _ _ _ | (rw [ite_fst] at ih; exact ih _ _ _ _ _ _)) | (have q1 : c k = true := (by rw [← hc2]; exact beq_iff_eq.mpr c_76); have q2 : cntI c k = 0 := (nI_eq (b := 0) (by omega) (by omega)).mp c_80; rw [e7, if_pos q2, if_pos q1] at ih; simp only [cntI, anU, orU, q1, if_true] at ih; exact ih _ _ _ _ _ _) | (have q1 : c k = true := (by rw [← hc2]; exact beq_iff_eq.mpr c_76); have q2 : ¬ cntI c k = 0 := (fun z => c_80 (by rw [z]; rfl)); rw [e7, if_neg q2] at ih; simp only [cntI, anU, orU, q1, if_true] at ih; exact ih _ _ _ _ _ _)
  refine r_iload_n dX0_who_0 rfl ?_
  refine r_iconst 0 dX0_who_1 (by decide) ?_
  refine r_sipush 4095 dX0_who_2 (by decide) ?_
  refine r_callS (as := [_, _, _]) okX0_isIn q378 dX0_who_5 (Nat.le_of_ble_eq_true rfl) rfl (Nat.le_of_ble_eq_true rfl) (Nat.le_of_ble_eq_true rfl) (Nat.le_of_ble_eq_true rfl) (pX0_isIn ?_)
  refine r_if_eq 20 dX0_who_8 (by decide) (fun c_8 => ?_) (fun c_8 => ?_)
  · refine r_aload_n dX0_who_20 rfl ?_
    refine r_bipush (-2) dX0_who_21 (by decide) ?_
    refine r_callV (as := [_]) okX0_no bX0 rfl rfl q381 dX0_who_23 (Nat.le_of_ble_eq_true rfl) rfl (Nat.le_of_ble_eq_true rfl) (Nat.le_of_ble_eq_true rfl) (Nat.le_of_ble_eq_true rfl) (pX0_no 2 (by decide) (by decide) ?_)
    exact r_iret dX0_who_26 rfl (Nat.le_of_ble_eq_true rfl) (Nat.le_of_ble_eq_true rfl) (hbad (by simp_all [b2i_0]))
  · refine r_iload_n dX0_who_11 rfl ?_
    refine r_iconst 0 dX0_who_12 (by decide) ?_
    refine r_iconst 3 dX0_who_13 (by decide) ?_
    refine r_callS (as := [_, _, _]) okX0_isIn q378 dX0_who_14 (Nat.le_of_ble_eq_true rfl) rfl (Nat.le_of_ble_eq_true rfl) (Nat.le_of_ble_eq_true rfl) (Nat.le_of_ble_eq_true rfl) (pX0_isIn ?_)
    refine r_if_ne 27 dX0_who_17 (by decide) (fun c_17 => ?_) (fun c_17 => ?_)
    · exact hgo (b2i_n.mp c_8) (b2i_n.mp c_17)
    · refine r_aload_n dX0_who_20 rfl ?_
      refine r_bipush (-2) dX0_who_21 (by decide) ?_
      refine r_callV (as := [_]) okX0_no bX0 rfl rfl q381 dX0_who_23 (Nat.le_of_ble_eq_true rfl) rfl (Nat.le_of_ble_eq_true rfl) (Nat.le_of_ble_eq_true rfl) (Nat.le_of_ble_eq_true rfl) (pX0_no 2 (by decide) (by decide) ?_)
      exact r_iret dX0_who_26 rfl (Nat.le_of_ble_eq_true rfl) (Nat.le_of_ble_eq_true rfl) (hbad (by simp_all [b2i_0]))
theorem pX0_sorts {s w : Int32} (hn : n ≤ 8) (hL : LkI lc r3 nl kN ow n) (hP : ThI th) (hbad : (inB s 0 7 && inB w 0 2) = false → Q (some (.int (-2))) (r0, (xC (.ref 2) iv tP tL tA tK tC tS tH tN tE tZ tf mP mf eP eT eF ef eg ew rx gx wx hv tp td (upd rf 2 (rf 2 + 1)) rc ic), (wC th pf nl ag lk co sh hs (nI n) ev se lc), r3)) (h0 : inB s 0 7 = true → w = 0 → Q (some (.int (cnF th s))) (r0, (xC (.ref 2) iv tP tL tA tK tC tS tH tN tE tZ tf mP mf eP eT eF ef eg ew rx gx wx hv tp td rf rc ic), (wC th pf nl ag lk co sh hs (nI n) ev se lc), r3)) (h1 : inB s 0 7 = true → inB w 0 2 = true → w ≠ 0 → Q (some (.int (nI (cntI (fun l => if w = 1 then likeB (ow l) (lk l) s else ow l == s) n)))) (r0, (xC (.ref 2) iv tP tL tA tK tC tS tH tN tE tZ tf mP mf eP eT eF ef eg ew rx gx wx hv tp td rf rc ic), (wC th pf nl ag lk co sh hs (nI n) ev se lc), r3)) : AMet mX0_sorts 3 0 0 [.ref 1, .int s, .int w] (r0, (xC (.ref 2) iv tP tL tA tK tC tS tH tN tE tZ tf mP mf eP eT eF ef eg ew rx gx wx hv tp td rf rc ic), (wC th pf nl ag lk co sh hs (nI n) ev se lc), r3) Q := by
  refine AMet.ofRch rfl rfl (Nat.le_of_ble_eq_true rfl) ?_
  have hgo : inB s 0 7 = true → inB w 0 2 = true → w ≠ 0 → Rch (mX0_sorts, 3, 0, 0, oQ Q) 0 0 39 [some (.ref 1), some (.int s), some (.int w), none, none, none] [] (r0, (xC (.ref 2) iv tP tL tA tK tC tS tH tN tE tZ tf mP mf eP eT eF ef eg ew rx gx wx hv tp td rf rc ic), (wC th pf nl ag lk co sh hs (nI n) ev se lc), r3) := by
    intro g1 g2 g3
    obtain ⟨z, hz, rfl⟩ := inB_ex 7 (by decide) g1
    refine r_iconst 0 dX0_sorts_39 (by decide) ?_
    refine r_istore_n dX0_sorts_40 (Nat.le_of_ble_eq_true rfl) ?_
    refine r_iconst 0 dX0_sorts_41 (by decide) ?_
    refine r_istore dX0_sorts_42 (Nat.le_of_ble_eq_true rfl) ?_
    refine loopUp (N := n) (P := fun k => ∀ y : Option Value, Rch (mX0_sorts, 3, 0, 0, oQ Q) 0 0 44 [some (.ref 1), some (.int (nI z)), some (.int w), some (.int (nI (cntI (fun l => if w = 1 then likeB (ow l) (lk l) (nI z) else ow l == nI z) k))), some (.int (nI k)), y] [] (r0, (xC (.ref 2) iv tP tL tA tK tC tS tH tN tE tZ tf mP mf eP eT eF ef eg ew rx gx wx hv tp td rf rc ic), (wC th pf nl ag lk co sh hs (nI n) ev se lc), r3)) ?_ ?_ none
    · intro y
      refine r_iload dX0_sorts_44 rfl ?_
      refine r_aload_n dX0_sorts_46 rfl ?_
      refine r_get bX0 0 (by decide) q246 dX0_sorts_47 rfl rfl ?_
      refine r_get bX1 7 (by decide) q179 dX0_sorts_50 rfl rfl ?_
      refine r_icmp_ge 120 dX0_sorts_53 (by decide) (fun _ => ?_) (fun c_ => absurd (Int32.le_refl _) c_)
      refine r_iload_n dX0_sorts_120 rfl ?_
      exact r_iret dX0_sorts_121 rfl (Nat.le_of_ble_eq_true rfl) (Nat.le_of_ble_eq_true rfl) (h1 g1 g2 g3)
    · intro k hk2 ih y
      obtain ⟨k6, v, la, hv8, ev8, enl, hla, hcell⟩ := hL.at hk2
      have e1 : hasB (lk k ||| (1 <<< (nI v &&& 31))) (nI z) = likeB (ow k) (lk k) (nI z) := by
        have h5 := ma_like (lk := lk k) (x := nI z) hv8 ev8 (Or.inr ⟨z, by omega, rfl⟩)
        rw [← h5, ev8]
        have : ¬ nI z = -1 := nI_m1 (by omega)
        simp [maB, this]
      by_cases g : w = 1
      · have ih2 : ∀ y : Option Value, Rch (mX0_sorts, 3, 0, 0, oQ Q) 0 0 44 [some (.ref 1), some (.int (nI z)), some (.int w), some (.int (nI (cntI (fun l => if w = 1 then likeB (ow l) (lk l) (nI z) else ow l == nI z) k + if likeB (ow k) (lk k) (nI z) = true then 1 else 0))), some (.int (nI (k + 1))), y] [] (r0, (xC (.ref 2) iv tP tL tA tK tC tS tH tN tE tZ tf mP mf eP eT eF ef eg ew rx gx wx hv tp td rf rc ic), (wC th pf nl ag lk co sh hs (nI n) ev se lc), r3) := by
          intro y
          have := ih y
          have e0 : (if w = 1 then likeB (ow k) (lk k) (nI z) else ow k == nI z) = likeB (ow k) (lk k) (nI z) := if_pos g
          simp only [cntI, e0] at this
          exact this
        refine r_iload dX0_sorts_44 rfl ?_
        refine r_aload_n dX0_sorts_46 rfl ?_
        refine r_get bX0 0 (by decide) q246 dX0_sorts_47 rfl rfl ?_
        refine r_get bX1 7 (by decide) q179 dX0_sorts_50 rfl rfl ?_
        refine r_icmp_ge 120 dX0_sorts_53 (by decide) (fun c_ => absurd c_ (geF hk2 (by omega))) (fun _ => ?_)
        refine r_iload_n dX0_sorts_56 rfl ?_
        refine r_iconst 1 dX0_sorts_57 (by decide) ?_
        refine r_icmp_ne 77 dX0_sorts_58 (by decide) (fun c_ => absurd (g) c_) (fun _ => ?_)
        refine r_aload_n dX0_sorts_61 rfl ?_
        refine r_get bX0 0 (by decide) q246 dX0_sorts_62 rfl rfl ?_
        refine r_iload dX0_sorts_65 rfl ?_
        refine r_callV (as := [_]) okX1_liked bX1 rfl rfl q1396 dX0_sorts_67 (Nat.le_of_ble_eq_true rfl) rfl (Nat.le_of_ble_eq_true rfl) (Nat.le_of_ble_eq_true rfl) (Nat.le_of_ble_eq_true rfl) (pX1_liked (w := nI v) (c := kN k) (by omega) rfl rfl rfl enl k6 (hcell _ _ _ _ _ _ _ _ _ _ _ _ _) ?_)
        refine r_iload_n dX0_sorts_70 rfl ?_
        refine r_callS (as := [_, _]) okX0_has q974 dX0_sorts_71 (Nat.le_of_ble_eq_true rfl) rfl (Nat.le_of_ble_eq_true rfl) (Nat.le_of_ble_eq_true rfl) (Nat.le_of_ble_eq_true rfl) (pX0_has ?_)
        refine r_goto 99 dX0_sorts_74 (by decide) ?_
        rw [e1]
        refine r_istore dX0_sorts_99 (Nat.le_of_ble_eq_true rfl) ?_
        refine r_iload_n dX0_sorts_101 rfl ?_
        refine r_iload dX0_sorts_102 rfl ?_
        refine r_if_eq 111 dX0_sorts_104 (by decide) (fun c_104 => ?_) (fun c_104 => ?_)
        · refine r_iconst 0 dX0_sorts_111 (by decide) ?_
          refine r_iadd dX0_sorts_112 ?_
          first | rw [nI_1] | rw [Int32.add_zero]
          refine r_istore_n dX0_sorts_113 (Nat.le_of_ble_eq_true rfl) ?_
          refine r_iincV dX0_sorts_114 rfl (Nat.le_of_ble_eq_true rfl) (incN _) ?_
          refine r_goto 44 dX0_sorts_117 (by decide) ?_
          first | (have q1 := b2i_0.mp c_104; rw [q1] at ih2; exact ih2 _) | (have q1 := b2i_n.mp c_104; rw [q1] at ih2; exact ih2 _)
        · refine r_iconst 1 dX0_sorts_107 (by decide) ?_
          refine r_goto 112 dX0_sorts_108 (by decide) ?_
          refine r_iadd dX0_sorts_112 ?_
          first | rw [nI_1] | rw [Int32.add_zero]
          refine r_istore_n dX0_sorts_113 (Nat.le_of_ble_eq_true rfl) ?_
          refine r_iincV dX0_sorts_114 rfl (Nat.le_of_ble_eq_true rfl) (incN _) ?_
          refine r_goto 44 dX0_sorts_117 (by decide) ?_
          first | (have q1 := b2i_0.mp c_104; rw [q1] at ih2; exact ih2 _) | (have q1 := b2i_n.mp c_104; rw [q1] at ih2; exact ih2 _)
      · have ih2 : ∀ y : Option Value, Rch (mX0_sorts, 3, 0, 0, oQ Q) 0 0 44 [some (.ref 1), some (.int (nI z)), some (.int w), some (.int (nI (cntI (fun l => if w = 1 then likeB (ow l) (lk l) (nI z) else ow l == nI z) k + if (ow k == nI z) = true then 1 else 0))), some (.int (nI (k + 1))), y] [] (r0, (xC (.ref 2) iv tP tL tA tK tC tS tH tN tE tZ tf mP mf eP eT eF ef eg ew rx gx wx hv tp td rf rc ic), (wC th pf nl ag lk co sh hs (nI n) ev se lc), r3) := by
          intro y
          have := ih y
          have e0 : (if w = 1 then likeB (ow k) (lk k) (nI z) else ow k == nI z) = (ow k == nI z) := if_neg g
          simp only [cntI, e0] at this
          exact this
        rw [ev8] at ih2
        refine r_iload dX0_sorts_44 rfl ?_
        refine r_aload_n dX0_sorts_46 rfl ?_
        refine r_get bX0 0 (by decide) q246 dX0_sorts_47 rfl rfl ?_
        refine r_get bX1 7 (by decide) q179 dX0_sorts_50 rfl rfl ?_
        refine r_icmp_ge 120 dX0_sorts_53 (by decide) (fun c_ => absurd c_ (geF hk2 (by omega))) (fun _ => ?_)
        refine r_iload_n dX0_sorts_56 rfl ?_
        refine r_iconst 1 dX0_sorts_57 (by decide) ?_
        refine r_icmp_ne 77 dX0_sorts_58 (by decide) (fun _ => ?_) (fun c_ => absurd c_ (g))
        refine r_aload_n dX0_sorts_77 rfl ?_
        refine r_get bX0 0 (by decide) q246 dX0_sorts_78 rfl rfl ?_
        refine r_get bX1 1 (by decide) q163 dX0_sorts_81 rfl rfl ?_
        refine r_iload dX0_sorts_84 rfl ?_
        refine r_aald_looker dX0_sorts_86 rfl (vp_in_nI (by omega) (by omega)) ?_
        rw [nI_clamp (by omega), enl]
        refine r_lkA q680 dX0_sorts_87 k6 (hcell _ _ _ _ _ _ _ _ _ _ _ _ _) ?_
        refine r_iload_n dX0_sorts_90 rfl ?_
        refine r_icmp_ne 98 dX0_sorts_91 (by decide) (fun c_91 => ?_) (fun c_91 => ?_)
        · refine r_iconst 0 dX0_sorts_98 (by decide) ?_
          refine r_istore dX0_sorts_99 (Nat.le_of_ble_eq_true rfl) ?_
          refine r_iload_n dX0_sorts_101 rfl ?_
          refine r_iload dX0_sorts_102 rfl ?_
          refine r_if_eq 111 dX0_sorts_104 (by decide) (fun c_104 => ?_) (fun c_104 => ?_)
          · refine r_iconst 0 dX0_sorts_111 (by decide) ?_
            refine r_iadd dX0_sorts_112 ?_
            first | rw [nI_1] | rw [Int32.add_zero]
            refine r_istore_n dX0_sorts_113 (Nat.le_of_ble_eq_true rfl) ?_
            refine r_iincV dX0_sorts_114 rfl (Nat.le_of_ble_eq_true rfl) (incN _) ?_
            refine r_goto 44 dX0_sorts_117 (by decide) ?_
            first | exact absurd c_104 (by decide) | exact absurd rfl c_104 | (have q1 : (nI v == nI z) = false := beq_eq_false_iff_ne.mpr c_91; rw [q1] at ih2; exact ih2 _) | (have q1 : (nI v == nI z) = true := beq_iff_eq.mpr c_91; rw [q1] at ih2; exact ih2 _)
          · refine r_iconst 1 dX0_sorts_107 (by decide) ?_
            refine r_goto 112 dX0_sorts_108 (by decide) ?_
            refine r_iadd dX0_sorts_112 ?_
            first | rw [nI_1] | rw [Int32.add_zero]
            refine r_istore_n dX0_sorts_113 (Nat.le_of_ble_eq_true rfl) ?_
            refine r_iincV dX0_sorts_114 rfl (Nat.le_of_ble_eq_true rfl) (incN _) ?_
            refine r_goto 44 dX0_sorts_117 (by decide) ?_
            first | exact absurd c_104 (by decide) | exact absurd rfl c_104 | (have q1 : (nI v == nI z) = false := beq_eq_false_iff_ne.mpr c_91; rw [q1] at ih2; exact ih2 _) | (have q1 : (nI v == nI z) = true := beq_iff_eq.mpr c_91; rw [q1] at ih2; exact ih2 _)
        · refine r_iconst 1 dX0_sorts_94 (by decide) ?_
          refine r_goto 99 dX0_sorts_95 (by decide) ?_
          refine r_istore dX0_sorts_99 (Nat.le_of_ble_eq_true rfl) ?_
          refine r_iload_n dX0_sorts_101 rfl ?_
          refine r_iload dX0_sorts_102 rfl ?_
          refine r_if_eq 111 dX0_sorts_104 (by decide) (fun c_104 => ?_) (fun c_104 => ?_)
          · refine r_iconst 0 dX0_sorts_111 (by decide) ?_
            refine r_iadd dX0_sorts_112 ?_
            first | rw [nI_1] | rw [Int32.add_zero]
            refine r_istore_n dX0_sorts_113 (Nat.le_of_ble_eq_true rfl) ?_
            refine r_iincV dX0_sorts_114 rfl (Nat.le_of_ble_eq_true rfl) (incN _) ?_
            refine r_goto 44 dX0_sorts_117 (by decide) ?_
            first | exact absurd c_104 (by decide) | exact absurd rfl c_104 | (have q1 : (nI v == nI z) = false := beq_eq_false_iff_ne.mpr c_91; rw [q1] at ih2; exact ih2 _) | (have q1 : (nI v == nI z) = true := beq_iff_eq.mpr c_91; rw [q1] at ih2; exact ih2 _)
          · refine r_iconst 1 dX0_sorts_107 (by decide) ?_
            refine r_goto 112 dX0_sorts_108 (by decide) ?_
            refine r_iadd dX0_sorts_112 ?_
            first | rw [nI_1] | rw [Int32.add_zero]
            refine r_istore_n dX0_sorts_113 (Nat.le_of_ble_eq_true rfl) ?_
            refine r_iincV dX0_sorts_114 rfl (Nat.le_of_ble_eq_true rfl) (incN _) ?_
            refine r_goto 44 dX0_sorts_117 (by decide) ?_
            first | exact absurd c_104 (by decide) | exact absurd rfl c_104 | (have q1 : (nI v == nI z) = false := beq_eq_false_iff_ne.mpr c_91; rw [q1] at ih2; exact ih2 _) | (have q1 : (nI v == nI z) = true := beq_iff_eq.mpr c_91; rw [q1] at ih2; exact ih2 _)
  refine r_iload_n dX0_sorts_0 rfl ?_
  refine r_callS (as := [_]) okX0_isSort q654 dX0_sorts_1 (Nat.le_of_ble_eq_true rfl) rfl (Nat.le_of_ble_eq_true rfl) (Nat.le_of_ble_eq_true rfl) (Nat.le_of_ble_eq_true rfl) (pX0_isSort ?_)
  refine r_if_eq 16 dX0_sorts_4 (by decide) (fun c_4 => ?_) (fun c_4 => ?_)
  · refine r_aload_n dX0_sorts_16 rfl ?_
    refine r_bipush (-2) dX0_sorts_17 (by decide) ?_
    refine r_callV (as := [_]) okX0_no bX0 rfl rfl q381 dX0_sorts_19 (Nat.le_of_ble_eq_true rfl) rfl (Nat.le_of_ble_eq_true rfl) (Nat.le_of_ble_eq_true rfl) (Nat.le_of_ble_eq_true rfl) (pX0_no 2 (by decide) (by decide) ?_)
    exact r_iret dX0_sorts_22 rfl (Nat.le_of_ble_eq_true rfl) (Nat.le_of_ble_eq_true rfl) (hbad (by simp_all [b2i_0]))
  · refine r_iload_n dX0_sorts_7 rfl ?_
    refine r_iconst 0 dX0_sorts_8 (by decide) ?_
    refine r_iconst 2 dX0_sorts_9 (by decide) ?_
    refine r_callS (as := [_, _, _]) okX0_isIn q378 dX0_sorts_10 (Nat.le_of_ble_eq_true rfl) rfl (Nat.le_of_ble_eq_true rfl) (Nat.le_of_ble_eq_true rfl) (Nat.le_of_ble_eq_true rfl) (pX0_isIn ?_)
    refine r_if_ne 23 dX0_sorts_13 (by decide) (fun c_13 => ?_) (fun c_13 => ?_)
    · refine r_iload_n dX0_sorts_23 rfl ?_
      refine r_if_ne 39 dX0_sorts_24 (by decide) (fun c_24 => ?_) (fun c_24 => ?_)
      · exact hgo (b2i_n.mp c_4) (b2i_n.mp c_13) c_24
      · refine r_aload_n dX0_sorts_27 rfl ?_
        refine r_get bX0 0 (by decide) q246 dX0_sorts_28 rfl rfl ?_
        refine r_get bX1 0 (by decide) q160 dX0_sorts_31 rfl rfl ?_
        refine r_iload_n dX0_sorts_34 rfl ?_
        refine r_callV (as := [_]) okX2_many bX2 rfl rfl q1328 dX0_sorts_35 (Nat.le_of_ble_eq_true rfl) rfl (Nat.le_of_ble_eq_true rfl) (Nat.le_of_ble_eq_true rfl) (Nat.le_of_ble_eq_true rfl) (pX2_many rfl rfl ?_)
        exact r_iret dX0_sorts_38 rfl (Nat.le_of_ble_eq_true rfl) (Nat.le_of_ble_eq_true rfl) (h0 (b2i_n.mp c_4) c_24)
    · refine r_aload_n dX0_sorts_16 rfl ?_
      refine r_bipush (-2) dX0_sorts_17 (by decide) ?_
      refine r_callV (as := [_]) okX0_no bX0 rfl rfl q381 dX0_sorts_19 (Nat.le_of_ble_eq_true rfl) rfl (Nat.le_of_ble_eq_true rfl) (Nat.le_of_ble_eq_true rfl) (Nat.le_of_ble_eq_true rfl) (pX0_no 2 (by decide) (by decide) ?_)
      exact r_iret dX0_sorts_22 rfl (Nat.le_of_ble_eq_true rfl) (Nat.le_of_ble_eq_true rfl) (hbad (by simp_all [b2i_0]))
theorem pX1_things {h : AHp} {o d j : Nat} {wp wl wa wk wc ws wn we wz : Value} {H : Nat → Int32} (hj : j < 8) (ho : aGet h o = some (.inr (1, [wp, wl, wa, wk, wc, ws, .ref d, wn, we, wz]))) (hd : aGet h d = some (.inl (.int, 64, .inl H))) (hQ : Q (some (.int (rkF.suI (fun s => H (8 * j + s)) 8))) h) : AMet mX1_things 1 0 0 [.ref o, .int (nI j)] h Q := by
  refine AMet.ofRch rfl rfl (Nat.le_of_ble_eq_true rfl) ?_
  refine r_iconst 0 dX1_things_0 (by decide) ?_
  refine r_istore_n dX1_things_1 (Nat.le_of_ble_eq_true rfl) ?_
  refine r_iconst 0 dX1_things_2 (by decide) ?_
  refine r_istore_n dX1_things_3 (Nat.le_of_ble_eq_true rfl) ?_
  refine loopUp (N := 8) (P := fun k => Rch (mX1_things, 1, 0, 0, oQ Q) 0 0 4 [some (.ref o), some (.int (nI j)), some (.int (rkF.suI (fun s => H (8 * j + s)) k)), some (.int (nI k))] [] h) ?_ ?_
  · refine r_iload_n dX1_things_4 rfl ?_
    refine r_bipush 8 dX1_things_5 (by decide) ?_
    refine r_icmp_ge 30 dX1_things_7 (by decide) (fun _ => ?_) (fun c_ => absurd (geT 8) c_)
    refine r_iload_n dX1_things_30 rfl ?_
    exact r_iret dX1_things_31 rfl (Nat.le_of_ble_eq_true rfl) (Nat.le_of_ble_eq_true rfl) (hQ)
  · intro k hk ih
    refine r_iload_n dX1_things_4 rfl ?_
    refine r_bipush 8 dX1_things_5 (by decide) ?_
    refine r_icmp_ge 30 dX1_things_7 (by decide) (fun c_ => absurd c_ (geF hk (by decide))) (fun _ => ?_)
    refine r_iload_n dX1_things_10 rfl ?_
    refine r_aload_n dX1_things_11 rfl ?_
    refine r_get bX1 6 (by decide) q175 dX1_things_12 ho rfl ?_
    refine r_bipush 8 dX1_things_15 (by decide) ?_
    refine r_iload_n dX1_things_17 rfl ?_
    refine r_imul dX1_things_18 ?_
    rw [show (8 : Int32) * nI j = nI (8 * j) from pk_mul 8 j]
    refine r_iload_n dX1_things_19 rfl ?_
    refine r_iadd dX1_things_20 ?_
    rw [nI_add]
    refine r_ialdN dX1_things_21 hd (by omega) (Nat.le_of_ble_eq_true rfl) ?_
    refine r_iadd dX1_things_22 ?_
    refine r_istore_n dX1_things_23 (Nat.le_of_ble_eq_true rfl) ?_
    refine r_iincV dX1_things_24 rfl (Nat.le_of_ble_eq_true rfl) (incN _) ?_
    refine r_goto 4 dX1_things_27 (by decide) ?_
    exact ih
theorem pX0_of {w : Int32} {j : Nat} (hj : j < 8) (hw : inB w 0 2 = true) (hQ : Q (some (.int (rkF ag hs w j))) (r0, (xC (.ref 2) iv tP tL tA tK tC tS tH tN tE tZ tf mP mf eP eT eF ef eg ew rx gx wx hv tp td rf rc ic), (wC th pf nl ag lk co sh hs my ev se lc), r3)) : AMet mX0_of 2 0 0 [.ref 1, .int (nI j), .int w] (r0, (xC (.ref 2) iv tP tL tA tK tC tS tH tN tE tZ tf mP mf eP eT eF ef eg ew rx gx wx hv tp td rf rc ic), (wC th pf nl ag lk co sh hs my ev se lc), r3) Q := by
  refine AMet.ofRch rfl rfl (Nat.le_of_ble_eq_true rfl) ?_
  obtain ⟨z, hz, rfl⟩ := inB_ex 2 (by decide) hw
  rcases (show z = 0 ∨ z = 1 ∨ z = 2 by omega) with rfl | rfl | rfl
  · refine r_iload_n dX0_of_0 rfl ?_
    refine r_if_ne 17 dX0_of_1 (by decide) (fun c_ => absurd (rfl) c_) (fun _ => ?_)
    refine r_aload_n dX0_of_4 rfl ?_
    refine r_get bX0 0 (by decide) q246 dX0_of_5 rfl rfl ?_
    refine r_get bX1 2 (by decide) q165 dX0_of_8 rfl rfl ?_
    refine r_iload_n dX0_of_11 rfl ?_
    refine r_ialdN dX0_of_12 rfl (by omega) (Nat.le_of_ble_eq_true rfl) ?_
    refine r_ineg dX0_of_13 ?_
    refine r_goto 42 dX0_of_14 (by decide) ?_
    exact r_iret dX0_of_42 rfl (Nat.le_of_ble_eq_true rfl) (Nat.le_of_ble_eq_true rfl) (hQ)
  · refine r_iload_n dX0_of_0 rfl ?_
    refine r_if_ne 17 dX0_of_1 (by decide) (fun _ => ?_) (fun c_ => absurd c_ (by decide))
    refine r_iload_n dX0_of_17 rfl ?_
    refine r_iconst 1 dX0_of_18 (by decide) ?_
    refine r_icmp_ne 34 dX0_of_19 (by decide) (fun c_ => absurd (rfl) c_) (fun _ => ?_)
    refine r_aload_n dX0_of_22 rfl ?_
    refine r_get bX0 0 (by decide) q246 dX0_of_23 rfl rfl ?_
    refine r_get bX1 2 (by decide) q165 dX0_of_26 rfl rfl ?_
    refine r_iload_n dX0_of_29 rfl ?_
    refine r_ialdN dX0_of_30 rfl (by omega) (Nat.le_of_ble_eq_true rfl) ?_
    refine r_goto 42 dX0_of_31 (by decide) ?_
    exact r_iret dX0_of_42 rfl (Nat.le_of_ble_eq_true rfl) (Nat.le_of_ble_eq_true rfl) (hQ)
  · refine r_iload_n dX0_of_0 rfl ?_
    refine r_if_ne 17 dX0_of_1 (by decide) (fun _ => ?_) (fun c_ => absurd c_ (by decide))
    refine r_iload_n dX0_of_17 rfl ?_
    refine r_iconst 1 dX0_of_18 (by decide) ?_
    refine r_icmp_ne 34 dX0_of_19 (by decide) (fun _ => ?_) (fun c_ => absurd c_ (by decide))
    refine r_aload_n dX0_of_34 rfl ?_
    refine r_get bX0 0 (by decide) q246 dX0_of_35 rfl rfl ?_
    refine r_iload_n dX0_of_38 rfl ?_
    refine r_callV (as := [_]) okX1_things bX1 rfl rfl q1409 dX0_of_39 (Nat.le_of_ble_eq_true rfl) rfl (Nat.le_of_ble_eq_true rfl) (Nat.le_of_ble_eq_true rfl) (Nat.le_of_ble_eq_true rfl) (pX1_things hj rfl rfl ?_)
    exact r_iret dX0_of_42 rfl (Nat.le_of_ble_eq_true rfl) (Nat.le_of_ble_eq_true rfl) (hQ)
theorem pX0_first {w : Int32} (hn : n ≤ 8) (hbad : inB w 0 2 = false → Q (some (.int (-2))) (r0, (xC (.ref 2) iv tP tL tA tK tC tS tH tN tE tZ tf mP mf eP eT eF ef eg ew rx gx wx hv tp td (upd rf 2 (rf 2 + 1)) rc ic), (wC th pf nl ag lk co sh hs (nI n) ev se lc), r3)) (hno : inB w 0 2 = true → fiF ag hs w n = -1 → Q (some (.int (-5))) (r0, (xC (.ref 2) iv tP tL tA tK tC tS tH tN tE tZ tf mP mf eP eT eF ef eg ew rx gx wx hv tp td (upd rf 5 (rf 5 + 1)) rc ic), (wC th pf nl ag lk co sh hs (nI n) ev se lc), r3)) (hok : inB w 0 2 = true → fiF ag hs w n ≠ -1 → Q (some (.int (fiF ag hs w n))) (r0, (xC (.ref 2) iv tP tL tA tK tC tS tH tN tE tZ tf mP mf eP eT eF ef eg ew rx gx wx hv tp td rf rc ic), (wC th pf nl ag lk co sh hs (nI n) ev se lc), r3)) : AMet mX0_first 3 0 0 [.ref 1, .int w] (r0, (xC (.ref 2) iv tP tL tA tK tC tS tH tN tE tZ tf mP mf eP eT eF ef eg ew rx gx wx hv tp td rf rc ic), (wC th pf nl ag lk co sh hs (nI n) ev se lc), r3) Q := by
  refine AMet.ofRch rfl rfl (Nat.le_of_ble_eq_true rfl) ?_
  have hgo : inB w 0 2 = true → Rch (mX0_first, 3, 0, 0, oQ Q) 0 0 16 [some (.ref 1), some (.int w), none, none] [] (r0, (xC (.ref 2) iv tP tL tA tK tC tS tH tN tE tZ tf mP mf eP eT eF ef eg ew rx gx wx hv tp td rf rc ic), (wC th pf nl ag lk co sh hs (nI n) ev se lc), r3) := by
    intro g
    refine r_iconst (-1) dX0_first_16 (by decide) ?_
    refine r_istore_n dX0_first_17 (Nat.le_of_ble_eq_true rfl) ?_
    refine r_iconst 0 dX0_first_18 (by decide) ?_
    refine r_istore_n dX0_first_19 (Nat.le_of_ble_eq_true rfl) ?_
    refine loopUp (N := n) (P := fun k => Rch (mX0_first, 3, 0, 0, oQ Q) 0 0 20 [some (.ref 1), some (.int w), some (.int (fiF ag hs w k)), some (.int (nI k))] [] (r0, (xC (.ref 2) iv tP tL tA tK tC tS tH tN tE tZ tf mP mf eP eT eF ef eg ew rx gx wx hv tp td rf rc ic), (wC th pf nl ag lk co sh hs (nI n) ev se lc), r3)) ?_ ?_
    · refine r_iload_n dX0_first_20 rfl ?_
      refine r_aload_n dX0_first_21 rfl ?_
      refine r_get bX0 0 (by decide) q246 dX0_first_22 rfl rfl ?_
      refine r_get bX1 7 (by decide) q179 dX0_first_25 rfl rfl ?_
      refine r_icmp_ge 63 dX0_first_28 (by decide) (fun _ => ?_) (fun c_ => absurd (Int32.le_refl _) c_)
      refine r_iload_n dX0_first_63 rfl ?_
      refine r_iconst (-1) dX0_first_64 (by decide) ?_
      refine r_icmp_ne 77 dX0_first_65 (by decide) (fun c_65 => ?_) (fun c_65 => ?_)
      · refine r_iload_n dX0_first_77 rfl ?_
        exact r_iret dX0_first_78 rfl (Nat.le_of_ble_eq_true rfl) (Nat.le_of_ble_eq_true rfl) (by first | exact hok g c_65 | exact hno g c_65)
      · refine r_aload_n dX0_first_68 rfl ?_
        refine r_bipush (-5) dX0_first_69 (by decide) ?_
        refine r_callV (as := [_]) okX0_no bX0 rfl rfl q381 dX0_first_71 (Nat.le_of_ble_eq_true rfl) rfl (Nat.le_of_ble_eq_true rfl) (Nat.le_of_ble_eq_true rfl) (Nat.le_of_ble_eq_true rfl) (pX0_no 5 (by decide) (by decide) ?_)
        refine r_goto 78 dX0_first_74 (by decide) ?_
        exact r_iret dX0_first_78 rfl (Nat.le_of_ble_eq_true rfl) (Nat.le_of_ble_eq_true rfl) (by first | exact hok g c_65 | exact hno g c_65)
    · intro k hk2 ih
      rcases fi_in ag hs w k with e | ⟨q, hq, e⟩
      · rw [fiF, if_pos (Or.inl e)] at ih
        rw [e]
        refine r_iload_n dX0_first_20 rfl ?_
        refine r_aload_n dX0_first_21 rfl ?_
        refine r_get bX0 0 (by decide) q246 dX0_first_22 rfl rfl ?_
        refine r_get bX1 7 (by decide) q179 dX0_first_25 rfl rfl ?_
        refine r_icmp_ge 63 dX0_first_28 (by decide) (fun c_ => absurd c_ (geF hk2 (by omega))) (fun _ => ?_)
        refine r_iload_n dX0_first_31 rfl ?_
        refine r_iconst (-1) dX0_first_32 (by decide) ?_
        refine r_icmp_eq 51 dX0_first_33 (by decide) (fun _ => ?_) (fun c_ => absurd (rfl) c_)
        refine r_iload_n dX0_first_51 rfl ?_
        refine r_goto 56 dX0_first_52 (by decide) ?_
        refine r_istore_n dX0_first_56 (Nat.le_of_ble_eq_true rfl) ?_
        refine r_iincV dX0_first_57 rfl (Nat.le_of_ble_eq_true rfl) (incN _) ?_
        refine r_goto 20 dX0_first_60 (by decide) ?_
        exact ih
      · have e2 : rkF ag hs w (fiF ag hs w k).toNatClampNeg = rkF ag hs w q := by rw [e, nI_clamp (by omega)]
        have e3 : ¬ fiF ag hs w k = -1 := by rw [e]; exact nI_m1 (by omega)
        rw [fiF, e2] at ih
        rw [e]
        rw [e] at e3
        refine r_iload_n dX0_first_20 rfl ?_
        refine r_aload_n dX0_first_21 rfl ?_
        refine r_get bX0 0 (by decide) q246 dX0_first_22 rfl rfl ?_
        refine r_get bX1 7 (by decide) q179 dX0_first_25 rfl rfl ?_
        refine r_icmp_ge 63 dX0_first_28 (by decide) (fun c_ => absurd c_ (geF hk2 (by omega))) (fun _ => ?_)
        refine r_iload_n dX0_first_31 rfl ?_
        refine r_iconst (-1) dX0_first_32 (by decide) ?_
        refine r_icmp_eq 51 dX0_first_33 (by decide) (fun c_ => absurd c_ (e3)) (fun _ => ?_)
        refine r_aload_n dX0_first_36 rfl ?_
        refine r_iload_n dX0_first_37 rfl ?_
        refine r_iload_n dX0_first_38 rfl ?_
        refine r_callV (as := [_, _]) okX0_of bX0 rfl rfl q1405 dX0_first_39 (Nat.le_of_ble_eq_true rfl) rfl (Nat.le_of_ble_eq_true rfl) (Nat.le_of_ble_eq_true rfl) (Nat.le_of_ble_eq_true rfl) (pX0_of (by omega) g ?_)
        refine r_aload_n dX0_first_42 rfl ?_
        refine r_iload_n dX0_first_43 rfl ?_
        refine r_iload_n dX0_first_44 rfl ?_
        refine r_callV (as := [_, _]) okX0_of bX0 rfl rfl q1405 dX0_first_45 (Nat.le_of_ble_eq_true rfl) rfl (Nat.le_of_ble_eq_true rfl) (Nat.le_of_ble_eq_true rfl) (Nat.le_of_ble_eq_true rfl) (pX0_of (by omega) g ?_)
        refine r_icmp_le 55 dX0_first_48 (by decide) (fun c_48 => ?_) (fun c_48 => ?_)
        · refine r_iload_n dX0_first_55 rfl ?_
          refine r_istore_n dX0_first_56 (Nat.le_of_ble_eq_true rfl) ?_
          refine r_iincV dX0_first_57 rfl (Nat.le_of_ble_eq_true rfl) (incN _) ?_
          refine r_goto 20 dX0_first_60 (by decide) ?_
          first | (rw [if_pos (Or.inr (Int32.not_le.mp c_48))] at ih; exact ih) | (rw [if_neg (fun z => z.elim (fun y => by rw [e] at y; exact e3 y) (fun y => absurd y (Int32.not_lt.mpr c_48))), e] at ih; exact ih)
        · refine r_iload_n dX0_first_51 rfl ?_
          refine r_goto 56 dX0_first_52 (by decide) ?_
          refine r_istore_n dX0_first_56 (Nat.le_of_ble_eq_true rfl) ?_
          refine r_iincV dX0_first_57 rfl (Nat.le_of_ble_eq_true rfl) (incN _) ?_
          refine r_goto 20 dX0_first_60 (by decide) ?_
          first | (rw [if_pos (Or.inr (Int32.not_le.mp c_48))] at ih; exact ih) | (rw [if_neg (fun z => z.elim (fun y => by rw [e] at y; exact e3 y) (fun y => absurd y (Int32.not_lt.mpr c_48))), e] at ih; exact ih)
  refine r_iload_n dX0_first_0 rfl ?_
  refine r_iconst 0 dX0_first_1 (by decide) ?_
  refine r_iconst 2 dX0_first_2 (by decide) ?_
  refine r_callS (as := [_, _, _]) okX0_isIn q378 dX0_first_3 (Nat.le_of_ble_eq_true rfl) rfl (Nat.le_of_ble_eq_true rfl) (Nat.le_of_ble_eq_true rfl) (Nat.le_of_ble_eq_true rfl) (pX0_isIn ?_)
  refine r_if_ne 16 dX0_first_6 (by decide) (fun c_6 => ?_) (fun c_6 => ?_)
  · exact hgo (b2i_n.mp c_6)
  · refine r_aload_n dX0_first_9 rfl ?_
    refine r_bipush (-2) dX0_first_10 (by decide) ?_
    refine r_callV (as := [_]) okX0_no bX0 rfl rfl q381 dX0_first_12 (Nat.le_of_ble_eq_true rfl) rfl (Nat.le_of_ble_eq_true rfl) (Nat.le_of_ble_eq_true rfl) (Nat.le_of_ble_eq_true rfl) (pX0_no 2 (by decide) (by decide) ?_)
    exact r_iret dX0_first_15 rfl (Nat.le_of_ble_eq_true rfl) (Nat.le_of_ble_eq_true rfl) (hbad (b2i_0.mp c_6))
theorem rare_step {w : Int32} {k : Nat} (hk2 : k < 8) (ih : ∀ y1 y2 y3 : Option Value, Rch (mX0_rare, 3, 0, 0, oQ Q) 0 0 20 [some (.ref 1), some (.int w), some (.int (raF th w (k + 1))), some (.int (nI (k + 1))), y1, y2, y3] [] (r0, (xC (.ref 2) iv tP tL tA tK tC tS tH tN tE tZ tf mP mf eP eT eF ef eg ew rx gx wx hv tp td rf rc ic), (wC th pf nl ag lk co sh hs my ev se lc), r3)) (y1 y2 y3 : Option Value) : Rch (mX0_rare, 3, 0, 0, oQ Q) 0 0 20 [some (.ref 1), some (.int w), some (.int (raF th w k)), some (.int (nI k)), y1, y2, y3] [] (r0, (xC (.ref 2) iv tP tL tA tK tC tS tH tN tE tZ tf mP mf eP eT eF ef eg ew rx gx wx hv tp td rf rc ic), (wC th pf nl ag lk co sh hs my ev se lc), r3) := by
  rw [raF] at ih
  generalize raF th w k = R at ih ⊢
  by_cases h0 : 0 < cnF th (nI k)
  · by_cases hR : R = -1
    · rw [if_pos ⟨h0, Or.inl hR⟩] at ih
      refine r_iload_n dX0_rare_20 rfl ?_
      refine r_bipush 8 dX0_rare_21 (by decide) ?_
      refine r_icmp_ge 116 dX0_rare_23 (by decide) (fun c_ => absurd c_ (geF hk2 (by decide))) (fun _ => ?_)
      refine r_aload_n dX0_rare_26 rfl ?_
      refine r_get bX0 0 (by decide) q246 dX0_rare_27 rfl rfl ?_
      refine r_get bX1 0 (by decide) q160 dX0_rare_30 rfl rfl ?_
      refine r_iload_n dX0_rare_33 rfl ?_
      refine r_callV (as := [_]) okX2_many bX2 rfl rfl q1328 dX0_rare_34 (Nat.le_of_ble_eq_true rfl) rfl (Nat.le_of_ble_eq_true rfl) (Nat.le_of_ble_eq_true rfl) (Nat.le_of_ble_eq_true rfl) (pX2_many rfl rfl ?_)
      refine r_istore dX0_rare_37 (Nat.le_of_ble_eq_true rfl) ?_
      refine r_iload_n dX0_rare_39 rfl ?_
      refine r_iconst (-1) dX0_rare_40 (by decide) ?_
      refine r_icmp_ne 48 dX0_rare_41 (by decide) (fun c_ => absurd (hR) c_) (fun _ => ?_)
      refine r_iconst 0 dX0_rare_44 (by decide) ?_
      refine r_goto 59 dX0_rare_45 (by decide) ?_
      refine r_istore dX0_rare_59 (Nat.le_of_ble_eq_true rfl) ?_
      refine r_iload_n dX0_rare_61 rfl ?_
      refine r_iconst (-1) dX0_rare_62 (by decide) ?_
      refine r_icmp_eq 87 dX0_rare_63 (by decide) (fun _ => ?_) (fun c_ => absurd (hR) c_)
      refine r_iconst 1 dX0_rare_87 (by decide) ?_
      refine r_goto 92 dX0_rare_88 (by decide) ?_
      refine r_istore dX0_rare_92 (Nat.le_of_ble_eq_true rfl) ?_
      refine r_iload dX0_rare_94 rfl ?_
      refine r_if_le 108 dX0_rare_96 (by decide) (fun c_ => absurd c_ (Int32.not_le.mpr h0)) (fun _ => ?_)
      refine r_iload dX0_rare_99 rfl ?_
      refine r_if_eq 108 dX0_rare_101 (by decide) (fun c_ => absurd c_ (by decide)) (fun _ => ?_)
      refine r_iload_n dX0_rare_104 rfl ?_
      refine r_goto 109 dX0_rare_105 (by decide) ?_
      refine r_istore_n dX0_rare_109 (Nat.le_of_ble_eq_true rfl) ?_
      refine r_iincV dX0_rare_110 rfl (Nat.le_of_ble_eq_true rfl) (incN _) ?_
      refine r_goto 20 dX0_rare_113 (by decide) ?_
      exact ih _ _ _
    · by_cases hw : w = 0
      · by_cases h1 : cnF th (nI k) < cnF th R
        · rw [if_pos ⟨h0, Or.inr (by rw [if_pos hw]; exact h1)⟩] at ih
          refine r_iload_n dX0_rare_20 rfl ?_
          refine r_bipush 8 dX0_rare_21 (by decide) ?_
          refine r_icmp_ge 116 dX0_rare_23 (by decide) (fun c_ => absurd c_ (geF hk2 (by decide))) (fun _ => ?_)
          refine r_aload_n dX0_rare_26 rfl ?_
          refine r_get bX0 0 (by decide) q246 dX0_rare_27 rfl rfl ?_
          refine r_get bX1 0 (by decide) q160 dX0_rare_30 rfl rfl ?_
          refine r_iload_n dX0_rare_33 rfl ?_
          refine r_callV (as := [_]) okX2_many bX2 rfl rfl q1328 dX0_rare_34 (Nat.le_of_ble_eq_true rfl) rfl (Nat.le_of_ble_eq_true rfl) (Nat.le_of_ble_eq_true rfl) (Nat.le_of_ble_eq_true rfl) (pX2_many rfl rfl ?_)
          refine r_istore dX0_rare_37 (Nat.le_of_ble_eq_true rfl) ?_
          refine r_iload_n dX0_rare_39 rfl ?_
          refine r_iconst (-1) dX0_rare_40 (by decide) ?_
          refine r_icmp_ne 48 dX0_rare_41 (by decide) (fun _ => ?_) (fun c_ => absurd c_ (hR))
          refine r_aload_n dX0_rare_48 rfl ?_
          refine r_get bX0 0 (by decide) q246 dX0_rare_49 rfl rfl ?_
          refine r_get bX1 0 (by decide) q160 dX0_rare_52 rfl rfl ?_
          refine r_iload_n dX0_rare_55 rfl ?_
          refine r_callV (as := [_]) okX2_many bX2 rfl rfl q1328 dX0_rare_56 (Nat.le_of_ble_eq_true rfl) rfl (Nat.le_of_ble_eq_true rfl) (Nat.le_of_ble_eq_true rfl) (Nat.le_of_ble_eq_true rfl) (pX2_many rfl rfl ?_)
          refine r_istore dX0_rare_59 (Nat.le_of_ble_eq_true rfl) ?_
          refine r_iload_n dX0_rare_61 rfl ?_
          refine r_iconst (-1) dX0_rare_62 (by decide) ?_
          refine r_icmp_eq 87 dX0_rare_63 (by decide) (fun c_ => absurd c_ (hR)) (fun _ => ?_)
          refine r_iload_n dX0_rare_66 rfl ?_
          refine r_if_ne 80 dX0_rare_67 (by decide) (fun c_ => absurd (hw) c_) (fun _ => ?_)
          refine r_iload dX0_rare_70 rfl ?_
          refine r_iload dX0_rare_72 rfl ?_
          refine r_icmp_ge 91 dX0_rare_74 (by decide) (fun c_ => absurd c_ (Int32.not_le.mpr h1)) (fun _ => ?_)
          refine r_goto 87 dX0_rare_77 (by decide) ?_
          refine r_iconst 1 dX0_rare_87 (by decide) ?_
          refine r_goto 92 dX0_rare_88 (by decide) ?_
          refine r_istore dX0_rare_92 (Nat.le_of_ble_eq_true rfl) ?_
          refine r_iload dX0_rare_94 rfl ?_
          refine r_if_le 108 dX0_rare_96 (by decide) (fun c_ => absurd c_ (Int32.not_le.mpr h0)) (fun _ => ?_)
          refine r_iload dX0_rare_99 rfl ?_
          refine r_if_eq 108 dX0_rare_101 (by decide) (fun c_ => absurd c_ (by decide)) (fun _ => ?_)
          refine r_iload_n dX0_rare_104 rfl ?_
          refine r_goto 109 dX0_rare_105 (by decide) ?_
          refine r_istore_n dX0_rare_109 (Nat.le_of_ble_eq_true rfl) ?_
          refine r_iincV dX0_rare_110 rfl (Nat.le_of_ble_eq_true rfl) (incN _) ?_
          refine r_goto 20 dX0_rare_113 (by decide) ?_
          exact ih _ _ _
        · rw [if_neg (fun z => z.2.elim hR (fun y => h1 (by rw [if_pos hw] at y; exact y)))] at ih
          refine r_iload_n dX0_rare_20 rfl ?_
          refine r_bipush 8 dX0_rare_21 (by decide) ?_
          refine r_icmp_ge 116 dX0_rare_23 (by decide) (fun c_ => absurd c_ (geF hk2 (by decide))) (fun _ => ?_)
          refine r_aload_n dX0_rare_26 rfl ?_
          refine r_get bX0 0 (by decide) q246 dX0_rare_27 rfl rfl ?_
          refine r_get bX1 0 (by decide) q160 dX0_rare_30 rfl rfl ?_
          refine r_iload_n dX0_rare_33 rfl ?_
          refine r_callV (as := [_]) okX2_many bX2 rfl rfl q1328 dX0_rare_34 (Nat.le_of_ble_eq_true rfl) rfl (Nat.le_of_ble_eq_true rfl) (Nat.le_of_ble_eq_true rfl) (Nat.le_of_ble_eq_true rfl) (pX2_many rfl rfl ?_)
          refine r_istore dX0_rare_37 (Nat.le_of_ble_eq_true rfl) ?_
          refine r_iload_n dX0_rare_39 rfl ?_
          refine r_iconst (-1) dX0_rare_40 (by decide) ?_
          refine r_icmp_ne 48 dX0_rare_41 (by decide) (fun _ => ?_) (fun c_ => absurd c_ (hR))
          refine r_aload_n dX0_rare_48 rfl ?_
          refine r_get bX0 0 (by decide) q246 dX0_rare_49 rfl rfl ?_
          refine r_get bX1 0 (by decide) q160 dX0_rare_52 rfl rfl ?_
          refine r_iload_n dX0_rare_55 rfl ?_
          refine r_callV (as := [_]) okX2_many bX2 rfl rfl q1328 dX0_rare_56 (Nat.le_of_ble_eq_true rfl) rfl (Nat.le_of_ble_eq_true rfl) (Nat.le_of_ble_eq_true rfl) (Nat.le_of_ble_eq_true rfl) (pX2_many rfl rfl ?_)
          refine r_istore dX0_rare_59 (Nat.le_of_ble_eq_true rfl) ?_
          refine r_iload_n dX0_rare_61 rfl ?_
          refine r_iconst (-1) dX0_rare_62 (by decide) ?_
          refine r_icmp_eq 87 dX0_rare_63 (by decide) (fun c_ => absurd c_ (hR)) (fun _ => ?_)
          refine r_iload_n dX0_rare_66 rfl ?_
          refine r_if_ne 80 dX0_rare_67 (by decide) (fun c_ => absurd (hw) c_) (fun _ => ?_)
          refine r_iload dX0_rare_70 rfl ?_
          refine r_iload dX0_rare_72 rfl ?_
          refine r_icmp_ge 91 dX0_rare_74 (by decide) (fun _ => ?_) (fun c_ => absurd (Int32.not_lt.mp h1) c_)
          refine r_iconst 0 dX0_rare_91 (by decide) ?_
          refine r_istore dX0_rare_92 (Nat.le_of_ble_eq_true rfl) ?_
          refine r_iload dX0_rare_94 rfl ?_
          refine r_if_le 108 dX0_rare_96 (by decide) (fun c_ => absurd c_ (Int32.not_le.mpr h0)) (fun _ => ?_)
          refine r_iload dX0_rare_99 rfl ?_
          refine r_if_eq 108 dX0_rare_101 (by decide) (fun _ => ?_) (fun c_ => absurd (rfl) c_)
          refine r_iload_n dX0_rare_108 rfl ?_
          refine r_istore_n dX0_rare_109 (Nat.le_of_ble_eq_true rfl) ?_
          refine r_iincV dX0_rare_110 rfl (Nat.le_of_ble_eq_true rfl) (incN _) ?_
          refine r_goto 20 dX0_rare_113 (by decide) ?_
          exact ih _ _ _
      · by_cases h1 : cnF th R < cnF th (nI k)
        · rw [if_pos ⟨h0, Or.inr (by rw [if_neg hw]; exact h1)⟩] at ih
          refine r_iload_n dX0_rare_20 rfl ?_
          refine r_bipush 8 dX0_rare_21 (by decide) ?_
          refine r_icmp_ge 116 dX0_rare_23 (by decide) (fun c_ => absurd c_ (geF hk2 (by decide))) (fun _ => ?_)
          refine r_aload_n dX0_rare_26 rfl ?_
          refine r_get bX0 0 (by decide) q246 dX0_rare_27 rfl rfl ?_
          refine r_get bX1 0 (by decide) q160 dX0_rare_30 rfl rfl ?_
          refine r_iload_n dX0_rare_33 rfl ?_
          refine r_callV (as := [_]) okX2_many bX2 rfl rfl q1328 dX0_rare_34 (Nat.le_of_ble_eq_true rfl) rfl (Nat.le_of_ble_eq_true rfl) (Nat.le_of_ble_eq_true rfl) (Nat.le_of_ble_eq_true rfl) (pX2_many rfl rfl ?_)
          refine r_istore dX0_rare_37 (Nat.le_of_ble_eq_true rfl) ?_
          refine r_iload_n dX0_rare_39 rfl ?_
          refine r_iconst (-1) dX0_rare_40 (by decide) ?_
          refine r_icmp_ne 48 dX0_rare_41 (by decide) (fun _ => ?_) (fun c_ => absurd c_ (hR))
          refine r_aload_n dX0_rare_48 rfl ?_
          refine r_get bX0 0 (by decide) q246 dX0_rare_49 rfl rfl ?_
          refine r_get bX1 0 (by decide) q160 dX0_rare_52 rfl rfl ?_
          refine r_iload_n dX0_rare_55 rfl ?_
          refine r_callV (as := [_]) okX2_many bX2 rfl rfl q1328 dX0_rare_56 (Nat.le_of_ble_eq_true rfl) rfl (Nat.le_of_ble_eq_true rfl) (Nat.le_of_ble_eq_true rfl) (Nat.le_of_ble_eq_true rfl) (pX2_many rfl rfl ?_)
          refine r_istore dX0_rare_59 (Nat.le_of_ble_eq_true rfl) ?_
          refine r_iload_n dX0_rare_61 rfl ?_
          refine r_iconst (-1) dX0_rare_62 (by decide) ?_
          refine r_icmp_eq 87 dX0_rare_63 (by decide) (fun c_ => absurd c_ (hR)) (fun _ => ?_)
          refine r_iload_n dX0_rare_66 rfl ?_
          refine r_if_ne 80 dX0_rare_67 (by decide) (fun _ => ?_) (fun c_ => absurd c_ (hw))
          refine r_iload dX0_rare_80 rfl ?_
          refine r_iload dX0_rare_82 rfl ?_
          refine r_icmp_le 91 dX0_rare_84 (by decide) (fun c_ => absurd c_ (Int32.not_le.mpr h1)) (fun _ => ?_)
          refine r_iconst 1 dX0_rare_87 (by decide) ?_
          refine r_goto 92 dX0_rare_88 (by decide) ?_
          refine r_istore dX0_rare_92 (Nat.le_of_ble_eq_true rfl) ?_
          refine r_iload dX0_rare_94 rfl ?_
          refine r_if_le 108 dX0_rare_96 (by decide) (fun c_ => absurd c_ (Int32.not_le.mpr h0)) (fun _ => ?_)
          refine r_iload dX0_rare_99 rfl ?_
          refine r_if_eq 108 dX0_rare_101 (by decide) (fun c_ => absurd c_ (by decide)) (fun _ => ?_)
          refine r_iload_n dX0_rare_104 rfl ?_
          refine r_goto 109 dX0_rare_105 (by decide) ?_
          refine r_istore_n dX0_rare_109 (Nat.le_of_ble_eq_true rfl) ?_
          refine r_iincV dX0_rare_110 rfl (Nat.le_of_ble_eq_true rfl) (incN _) ?_
          refine r_goto 20 dX0_rare_113 (by decide) ?_
          exact ih _ _ _
        · rw [if_neg (fun z => z.2.elim hR (fun y => h1 (by rw [if_neg hw] at y; exact y)))] at ih
          refine r_iload_n dX0_rare_20 rfl ?_
          refine r_bipush 8 dX0_rare_21 (by decide) ?_
          refine r_icmp_ge 116 dX0_rare_23 (by decide) (fun c_ => absurd c_ (geF hk2 (by decide))) (fun _ => ?_)
          refine r_aload_n dX0_rare_26 rfl ?_
          refine r_get bX0 0 (by decide) q246 dX0_rare_27 rfl rfl ?_
          refine r_get bX1 0 (by decide) q160 dX0_rare_30 rfl rfl ?_
          refine r_iload_n dX0_rare_33 rfl ?_
          refine r_callV (as := [_]) okX2_many bX2 rfl rfl q1328 dX0_rare_34 (Nat.le_of_ble_eq_true rfl) rfl (Nat.le_of_ble_eq_true rfl) (Nat.le_of_ble_eq_true rfl) (Nat.le_of_ble_eq_true rfl) (pX2_many rfl rfl ?_)
          refine r_istore dX0_rare_37 (Nat.le_of_ble_eq_true rfl) ?_
          refine r_iload_n dX0_rare_39 rfl ?_
          refine r_iconst (-1) dX0_rare_40 (by decide) ?_
          refine r_icmp_ne 48 dX0_rare_41 (by decide) (fun _ => ?_) (fun c_ => absurd c_ (hR))
          refine r_aload_n dX0_rare_48 rfl ?_
          refine r_get bX0 0 (by decide) q246 dX0_rare_49 rfl rfl ?_
          refine r_get bX1 0 (by decide) q160 dX0_rare_52 rfl rfl ?_
          refine r_iload_n dX0_rare_55 rfl ?_
          refine r_callV (as := [_]) okX2_many bX2 rfl rfl q1328 dX0_rare_56 (Nat.le_of_ble_eq_true rfl) rfl (Nat.le_of_ble_eq_true rfl) (Nat.le_of_ble_eq_true rfl) (Nat.le_of_ble_eq_true rfl) (pX2_many rfl rfl ?_)
          refine r_istore dX0_rare_59 (Nat.le_of_ble_eq_true rfl) ?_
          refine r_iload_n dX0_rare_61 rfl ?_
          refine r_iconst (-1) dX0_rare_62 (by decide) ?_
          refine r_icmp_eq 87 dX0_rare_63 (by decide) (fun c_ => absurd c_ (hR)) (fun _ => ?_)
          refine r_iload_n dX0_rare_66 rfl ?_
          refine r_if_ne 80 dX0_rare_67 (by decide) (fun _ => ?_) (fun c_ => absurd c_ (hw))
          refine r_iload dX0_rare_80 rfl ?_
          refine r_iload dX0_rare_82 rfl ?_
          refine r_icmp_le 91 dX0_rare_84 (by decide) (fun _ => ?_) (fun c_ => absurd (Int32.not_lt.mp h1) c_)
          refine r_iconst 0 dX0_rare_91 (by decide) ?_
          refine r_istore dX0_rare_92 (Nat.le_of_ble_eq_true rfl) ?_
          refine r_iload dX0_rare_94 rfl ?_
          refine r_if_le 108 dX0_rare_96 (by decide) (fun c_ => absurd c_ (Int32.not_le.mpr h0)) (fun _ => ?_)
          refine r_iload dX0_rare_99 rfl ?_
          refine r_if_eq 108 dX0_rare_101 (by decide) (fun _ => ?_) (fun c_ => absurd (rfl) c_)
          refine r_iload_n dX0_rare_108 rfl ?_
          refine r_istore_n dX0_rare_109 (Nat.le_of_ble_eq_true rfl) ?_
          refine r_iincV dX0_rare_110 rfl (Nat.le_of_ble_eq_true rfl) (incN _) ?_
          refine r_goto 20 dX0_rare_113 (by decide) ?_
          exact ih _ _ _
  · rw [if_neg (fun z => h0 z.1)] at ih
    have h0' : cnF th (nI k) ≤ 0 := Int32.not_lt.mp h0
    by_cases hR : R = -1
    · refine r_iload_n dX0_rare_20 rfl ?_
      refine r_bipush 8 dX0_rare_21 (by decide) ?_
      refine r_icmp_ge 116 dX0_rare_23 (by decide) (fun c_ => absurd c_ (geF hk2 (by decide))) (fun _ => ?_)
      refine r_aload_n dX0_rare_26 rfl ?_
      refine r_get bX0 0 (by decide) q246 dX0_rare_27 rfl rfl ?_
      refine r_get bX1 0 (by decide) q160 dX0_rare_30 rfl rfl ?_
      refine r_iload_n dX0_rare_33 rfl ?_
      refine r_callV (as := [_]) okX2_many bX2 rfl rfl q1328 dX0_rare_34 (Nat.le_of_ble_eq_true rfl) rfl (Nat.le_of_ble_eq_true rfl) (Nat.le_of_ble_eq_true rfl) (Nat.le_of_ble_eq_true rfl) (pX2_many rfl rfl ?_)
      refine r_istore dX0_rare_37 (Nat.le_of_ble_eq_true rfl) ?_
      refine r_iload_n dX0_rare_39 rfl ?_
      refine r_iconst (-1) dX0_rare_40 (by decide) ?_
      refine r_icmp_ne 48 dX0_rare_41 (by decide) (fun c_ => absurd (hR) c_) (fun _ => ?_)
      refine r_iconst 0 dX0_rare_44 (by decide) ?_
      refine r_goto 59 dX0_rare_45 (by decide) ?_
      refine r_istore dX0_rare_59 (Nat.le_of_ble_eq_true rfl) ?_
      refine r_iload_n dX0_rare_61 rfl ?_
      refine r_iconst (-1) dX0_rare_62 (by decide) ?_
      refine r_icmp_eq 87 dX0_rare_63 (by decide) (fun _ => ?_) (fun c_ => absurd (hR) c_)
      refine r_iconst 1 dX0_rare_87 (by decide) ?_
      refine r_goto 92 dX0_rare_88 (by decide) ?_
      refine r_istore dX0_rare_92 (Nat.le_of_ble_eq_true rfl) ?_
      refine r_iload dX0_rare_94 rfl ?_
      refine r_if_le 108 dX0_rare_96 (by decide) (fun _ => ?_) (fun c_ => absurd (h0') c_)
      refine r_iload_n dX0_rare_108 rfl ?_
      refine r_istore_n dX0_rare_109 (Nat.le_of_ble_eq_true rfl) ?_
      refine r_iincV dX0_rare_110 rfl (Nat.le_of_ble_eq_true rfl) (incN _) ?_
      refine r_goto 20 dX0_rare_113 (by decide) ?_
      exact ih _ _ _
    · refine r_iload_n dX0_rare_20 rfl ?_
      refine r_bipush 8 dX0_rare_21 (by decide) ?_
      refine r_icmp_ge 116 dX0_rare_23 (by decide) (fun c_ => absurd c_ (geF hk2 (by decide))) (fun _ => ?_)
      refine r_aload_n dX0_rare_26 rfl ?_
      refine r_get bX0 0 (by decide) q246 dX0_rare_27 rfl rfl ?_
      refine r_get bX1 0 (by decide) q160 dX0_rare_30 rfl rfl ?_
      refine r_iload_n dX0_rare_33 rfl ?_
      refine r_callV (as := [_]) okX2_many bX2 rfl rfl q1328 dX0_rare_34 (Nat.le_of_ble_eq_true rfl) rfl (Nat.le_of_ble_eq_true rfl) (Nat.le_of_ble_eq_true rfl) (Nat.le_of_ble_eq_true rfl) (pX2_many rfl rfl ?_)
      refine r_istore dX0_rare_37 (Nat.le_of_ble_eq_true rfl) ?_
      refine r_iload_n dX0_rare_39 rfl ?_
      refine r_iconst (-1) dX0_rare_40 (by decide) ?_
      refine r_icmp_ne 48 dX0_rare_41 (by decide) (fun _ => ?_) (fun c_ => absurd c_ (hR))
      refine r_aload_n dX0_rare_48 rfl ?_
      refine r_get bX0 0 (by decide) q246 dX0_rare_49 rfl rfl ?_
      refine r_get bX1 0 (by decide) q160 dX0_rare_52 rfl rfl ?_
      refine r_iload_n dX0_rare_55 rfl ?_
      refine r_callV (as := [_]) okX2_many bX2 rfl rfl q1328 dX0_rare_56 (Nat.le_of_ble_eq_true rfl) rfl (Nat.le_of_ble_eq_true rfl) (Nat.le_of_ble_eq_true rfl) (Nat.le_of_ble_eq_true rfl) (pX2_many rfl rfl ?_)
      refine r_istore dX0_rare_59 (Nat.le_of_ble_eq_true rfl) ?_
      refine r_iload_n dX0_rare_61 rfl ?_
      refine r_iconst (-1) dX0_rare_62 (by decide) ?_
      refine r_icmp_eq 87 dX0_rare_63 (by decide) (fun c_ => absurd c_ (hR)) (fun _ => ?_)
      refine r_iload_n dX0_rare_66 rfl ?_
      refine r_if_ne 80 dX0_rare_67 (by decide) (fun c_67 => ?_) (fun c_67 => ?_)
      · refine r_iload dX0_rare_80 rfl ?_
        refine r_iload dX0_rare_82 rfl ?_
        refine r_icmp_le 91 dX0_rare_84 (by decide) (fun c_84 => ?_) (fun c_84 => ?_)
        · refine r_iconst 0 dX0_rare_91 (by decide) ?_
          refine r_istore dX0_rare_92 (Nat.le_of_ble_eq_true rfl) ?_
          refine r_iload dX0_rare_94 rfl ?_
          refine r_if_le 108 dX0_rare_96 (by decide) (fun _ => ?_) (fun c_ => absurd (h0') c_)
          refine r_iload_n dX0_rare_108 rfl ?_
          refine r_istore_n dX0_rare_109 (Nat.le_of_ble_eq_true rfl) ?_
          refine r_iincV dX0_rare_110 rfl (Nat.le_of_ble_eq_true rfl) (incN _) ?_
          refine r_goto 20 dX0_rare_113 (by decide) ?_
          exact ih _ _ _
        · refine r_iconst 1 dX0_rare_87 (by decide) ?_
          refine r_goto 92 dX0_rare_88 (by decide) ?_
          refine r_istore dX0_rare_92 (Nat.le_of_ble_eq_true rfl) ?_
          refine r_iload dX0_rare_94 rfl ?_
          refine r_if_le 108 dX0_rare_96 (by decide) (fun _ => ?_) (fun c_ => absurd (h0') c_)
          refine r_iload_n dX0_rare_108 rfl ?_
          refine r_istore_n dX0_rare_109 (Nat.le_of_ble_eq_true rfl) ?_
          refine r_iincV dX0_rare_110 rfl (Nat.le_of_ble_eq_true rfl) (incN _) ?_
          refine r_goto 20 dX0_rare_113 (by decide) ?_
          exact ih _ _ _
      · refine r_iload dX0_rare_70 rfl ?_
        refine r_iload dX0_rare_72 rfl ?_
        refine r_icmp_ge 91 dX0_rare_74 (by decide) (fun c_74 => ?_) (fun c_74 => ?_)
        · refine r_iconst 0 dX0_rare_91 (by decide) ?_
          refine r_istore dX0_rare_92 (Nat.le_of_ble_eq_true rfl) ?_
          refine r_iload dX0_rare_94 rfl ?_
          refine r_if_le 108 dX0_rare_96 (by decide) (fun _ => ?_) (fun c_ => absurd (h0') c_)
          refine r_iload_n dX0_rare_108 rfl ?_
          refine r_istore_n dX0_rare_109 (Nat.le_of_ble_eq_true rfl) ?_
          refine r_iincV dX0_rare_110 rfl (Nat.le_of_ble_eq_true rfl) (incN _) ?_
          refine r_goto 20 dX0_rare_113 (by decide) ?_
          exact ih _ _ _
        · refine r_goto 87 dX0_rare_77 (by decide) ?_
          refine r_iconst 1 dX0_rare_87 (by decide) ?_
          refine r_goto 92 dX0_rare_88 (by decide) ?_
          refine r_istore dX0_rare_92 (Nat.le_of_ble_eq_true rfl) ?_
          refine r_iload dX0_rare_94 rfl ?_
          refine r_if_le 108 dX0_rare_96 (by decide) (fun _ => ?_) (fun c_ => absurd (h0') c_)
          refine r_iload_n dX0_rare_108 rfl ?_
          refine r_istore_n dX0_rare_109 (Nat.le_of_ble_eq_true rfl) ?_
          refine r_iincV dX0_rare_110 rfl (Nat.le_of_ble_eq_true rfl) (incN _) ?_
          refine r_goto 20 dX0_rare_113 (by decide) ?_
          exact ih _ _ _
theorem pX0_rare {w : Int32} (hbad : inB w 0 1 = false → Q (some (.int (-2))) (r0, (xC (.ref 2) iv tP tL tA tK tC tS tH tN tE tZ tf mP mf eP eT eF ef eg ew rx gx wx hv tp td (upd rf 2 (rf 2 + 1)) rc ic), (wC th pf nl ag lk co sh hs my ev se lc), r3)) (hno : inB w 0 1 = true → raF th w 8 = -1 → Q (some (.int (-5))) (r0, (xC (.ref 2) iv tP tL tA tK tC tS tH tN tE tZ tf mP mf eP eT eF ef eg ew rx gx wx hv tp td (upd rf 5 (rf 5 + 1)) rc ic), (wC th pf nl ag lk co sh hs my ev se lc), r3)) (hok : inB w 0 1 = true → raF th w 8 ≠ -1 → Q (some (.int (raF th w 8))) (r0, (xC (.ref 2) iv tP tL tA tK tC tS tH tN tE tZ tf mP mf eP eT eF ef eg ew rx gx wx hv tp td rf rc ic), (wC th pf nl ag lk co sh hs my ev se lc), r3)) : AMet mX0_rare 3 0 0 [.ref 1, .int w] (r0, (xC (.ref 2) iv tP tL tA tK tC tS tH tN tE tZ tf mP mf eP eT eF ef eg ew rx gx wx hv tp td rf rc ic), (wC th pf nl ag lk co sh hs my ev se lc), r3) Q := by
  refine AMet.ofRch rfl rfl (Nat.le_of_ble_eq_true rfl) ?_
  have hgo : inB w 0 1 = true → Rch (mX0_rare, 3, 0, 0, oQ Q) 0 0 16 [some (.ref 1), some (.int w), none, none, none, none, none] [] (r0, (xC (.ref 2) iv tP tL tA tK tC tS tH tN tE tZ tf mP mf eP eT eF ef eg ew rx gx wx hv tp td rf rc ic), (wC th pf nl ag lk co sh hs my ev se lc), r3) := by
    intro g
    refine r_iconst (-1) dX0_rare_16 (by decide) ?_
    refine r_istore_n dX0_rare_17 (Nat.le_of_ble_eq_true rfl) ?_
    refine r_iconst 0 dX0_rare_18 (by decide) ?_
    refine r_istore_n dX0_rare_19 (Nat.le_of_ble_eq_true rfl) ?_
    refine loopUp (N := 8) (P := fun k => ∀ y1 y2 y3 : Option Value, Rch (mX0_rare, 3, 0, 0, oQ Q) 0 0 20 [some (.ref 1), some (.int w), some (.int (raF th w k)), some (.int (nI k)), y1, y2, y3] [] (r0, (xC (.ref 2) iv tP tL tA tK tC tS tH tN tE tZ tf mP mf eP eT eF ef eg ew rx gx wx hv tp td rf rc ic), (wC th pf nl ag lk co sh hs my ev se lc), r3)) ?_ ?_ none none none
    · intro y1 y2 y3
      refine r_iload_n dX0_rare_20 rfl ?_
      refine r_bipush 8 dX0_rare_21 (by decide) ?_
      refine r_icmp_ge 116 dX0_rare_23 (by decide) (fun _ => ?_) (fun c_ => absurd (geT 8) c_)
      refine r_iload_n dX0_rare_116 rfl ?_
      refine r_iconst (-1) dX0_rare_117 (by decide) ?_
      refine r_icmp_ne 130 dX0_rare_118 (by decide) (fun c_118 => ?_) (fun c_118 => ?_)
      · refine r_iload_n dX0_rare_130 rfl ?_
        exact r_iret dX0_rare_131 rfl (Nat.le_of_ble_eq_true rfl) (Nat.le_of_ble_eq_true rfl) (by first | exact hok g c_118 | exact hno g c_118)
      · refine r_aload_n dX0_rare_121 rfl ?_
        refine r_bipush (-5) dX0_rare_122 (by decide) ?_
        refine r_callV (as := [_]) okX0_no bX0 rfl rfl q381 dX0_rare_124 (Nat.le_of_ble_eq_true rfl) rfl (Nat.le_of_ble_eq_true rfl) (Nat.le_of_ble_eq_true rfl) (Nat.le_of_ble_eq_true rfl) (pX0_no 5 (by decide) (by decide) ?_)
        refine r_goto 131 dX0_rare_127 (by decide) ?_
        exact r_iret dX0_rare_131 rfl (Nat.le_of_ble_eq_true rfl) (Nat.le_of_ble_eq_true rfl) (by first | exact hok g c_118 | exact hno g c_118)
    · intro k hk2 ih y1 y2 y3
      exact rare_step hk2 ih y1 y2 y3
  refine r_iload_n dX0_rare_0 rfl ?_
  refine r_iconst 0 dX0_rare_1 (by decide) ?_
  refine r_iconst 1 dX0_rare_2 (by decide) ?_
  refine r_callS (as := [_, _, _]) okX0_isIn q378 dX0_rare_3 (Nat.le_of_ble_eq_true rfl) rfl (Nat.le_of_ble_eq_true rfl) (Nat.le_of_ble_eq_true rfl) (Nat.le_of_ble_eq_true rfl) (pX0_isIn ?_)
  refine r_if_ne 16 dX0_rare_6 (by decide) (fun c_6 => ?_) (fun c_6 => ?_)
  · exact hgo (b2i_n.mp c_6)
  · refine r_aload_n dX0_rare_9 rfl ?_
    refine r_bipush (-2) dX0_rare_10 (by decide) ?_
    refine r_callV (as := [_]) okX0_no bX0 rfl rfl q381 dX0_rare_12 (Nat.le_of_ble_eq_true rfl) rfl (Nat.le_of_ble_eq_true rfl) (Nat.le_of_ble_eq_true rfl) (Nat.le_of_ble_eq_true rfl) (pX0_no 2 (by decide) (by decide) ?_)
    exact r_iret dX0_rare_15 rfl (Nat.le_of_ble_eq_true rfl) (Nat.le_of_ble_eq_true rfl) (hbad (b2i_0.mp c_6))
end XX
