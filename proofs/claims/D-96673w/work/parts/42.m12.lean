set_option maxRecDepth 100000
/-! the reference: setOut -/
theorem ppS_len {F : (Nat → Int32) → Option (List Int32)} {so : Int32} {p d : Nat} {th : Nat → Int32} (hF : ∀ th' L, F th' = some L → L.length = d) : ∀ q L, ppS F so p th q = some L → L.length = d + 1
  | 0, L, h => by simp [ppS] at h
  | q + 1, L, h => by
    simp only [ppS] at h
    split at h
    · split at h
      · rename_i L2 hL2
        cases h
        simp [hF _ _ hL2]
      · exact ppS_len hF q L h
    · exact ppS_len hF q L h
theorem ppF_len {kN : Nat → Nat} {ow lk ag : Nat → Int32} {n : Nat} {so s : Int32} : ∀ d th L, ppF kN ow lk ag n so s d th = some L → L.length = d
  | 0, th, L, h => by
    simp only [ppF] at h
    split at h
    · cases h; rfl
    · cases h
  | d + 1, th, L, h => by
    simp only [ppF] at h
    split at h
    · cases h
    · exact ppS_len (fun th' L hL => ppF_len d th' L hL) 8 L h
/-- the fewest that do: q lengths from d on -/
def seF (F : Nat → Option (List Int32)) : Nat → Nat → Option (List Int32)
  | 0, _ => none
  | q + 1, d => match F d with
    | some L => some L
    | none => seF F q (d + 1)
section MM
variable {th kd ow ag lk co sh hs tp hd rl : Nat → Int32} {ro : Nat → Int64} {rf ol ah tr od tk fo wi ou ge mo : Nat → Int32} {my ev se td fr to tn va im lo : Int32} {r : List AC × List AC × List AC} {Q : Option Value → AHp → Prop}
variable {n : Nat} {kN : Nat → Nat}
theorem pX5_setOut {s i : Int32} (hn : n ≤ 8) (hk : ∀ j, j < n → kd j = nI (kN j) ∧ kN j < 6) (ho : ∀ j, j < n → ow j ≠ -1) (hbad : inB s 0 (allS n) = false ∨ i < -1 → Q (some (.int (-2))) ((mC th kd ow ag lk co sh hs tp hd rl ro (upd rf 2 (rf 2 + 1)) ol ah tr od tk fo wi ou ge mo (nI n) ev se td fr to tn va im lo), r)) (h1 : inB s 0 (allS n) = true → i = -1 → ∀ (mo tr tk fo od : Nat → Int32) (lo : Int32), Q (some (.int (match seF (fun d => ppF kN ow lk ag n (soF ow s n) s d th) 4 0 with
    | some L => nI L.length
    | none => -1))) ((mC th kd ow ag lk co sh hs tp hd rl ro rf ol ah tr od tk fo wi ou ge mo (nI n) ev se td fr to tn va im lo), r)) (h2 : inB s 0 (allS n) = true → ∀ q L, q < 2 ^ 31 → i = nI q → seF (fun d => ppF kN ow lk ag n (soF ow s n) s d th) 4 0 = some L → q < L.length → ∀ (mo tr tk fo od : Nat → Int32) (lo : Int32), Q (some (.int (L.getD q 0))) ((mC th kd ow ag lk co sh hs tp hd rl ro rf ol ah tr od tk fo wi ou ge mo (nI n) ev se td fr to tn va im lo), r)) (h3 : inB s 0 (allS n) = true → ∀ q, q < 2 ^ 31 → i = nI q → (∀ L, seF (fun d => ppF kN ow lk ag n (soF ow s n) s d th) 4 0 = some L → ¬ q < L.length) → ∀ (mo tr tk fo od : Nat → Int32) (lo : Int32), Q (some (.int (-5))) ((mC th kd ow ag lk co sh hs tp hd rl ro (upd rf 5 (rf 5 + 1)) ol ah tr od tk fo wi ou ge mo (nI n) ev se td fr to tn va im lo), r)) : AMet mX5_setOut 12 0 0 [.ref 0, .int s, .int i] ((mC th kd ow ag lk co sh hs tp hd rl ro rf ol ah tr od tk fo wi ou ge mo (nI n) ev se td fr to tn va im lo), r) Q := by
  refine AMet.ofRch rfl rfl (Nat.le_of_ble_eq_true rfl) ?_
  have hfin : inB s 0 (allS n) = true → ¬ i < -1 → ∀ d, d ≤ 4 → ∀ (mo tr tk fo od : Nat → Int32) (lo : Int32) (so : Int32), (∀ L, seF (fun d => ppF kN ow lk ag n (soF ow s n) s d th) 4 0 = some L → L.length = d ∧ d < 4 ∧ ∀ k, k < d → mo k = L.getD k 0) → (seF (fun d => ppF kN ow lk ag n (soF ow s n) s d th) 4 0 = none → d = 4) → Rch (mX5_setOut, 12, 0, 0, oQ Q) 0 0 88 [some (.ref 0), some (.int s), some (.int i), some (.int so), some (.int (nI d))] [] ((mC th kd ow ag lk co sh hs tp hd rl ro rf ol ah tr od tk fo wi ou ge mo (nI n) ev se td fr to tn va im lo), r) := by
    intro g1 g2 d hd4 mo tr tk fo od lo so hs1 hs2
    by_cases e : i = -1
    · subst e
      have hq := h1 g1 rfl mo tr tk fo od lo
      cases hR : seF (fun d => ppF kN ow lk ag n (soF ow s n) s d th) 4 0 with
      | none =>
        have := hs2 hR
        subst this
        rw [hR] at hq
        refine r_iload_n dX5_setOut_88 rfl ?_
        refine r_iconst (-1) dX5_setOut_89 (by decide) ?_
        refine r_icmp_ne 106 dX5_setOut_90 (by decide) (fun c_ => absurd (rfl) c_) (fun _ => ?_)
        refine r_iload dX5_setOut_93 rfl ?_
        refine r_iconst 4 dX5_setOut_95 (by decide) ?_
        refine r_icmp_ne 103 dX5_setOut_96 (by decide) (fun c_ => absurd (rfl) c_) (fun _ => ?_)
        refine r_iconst (-1) dX5_setOut_99 (by decide) ?_
        refine r_goto 105 dX5_setOut_100 (by decide) ?_
        exact r_iret dX5_setOut_105 rfl (Nat.le_of_ble_eq_true rfl) (Nat.le_of_ble_eq_true rfl) (hq)
      | some L =>
        obtain ⟨a1, a2, -⟩ := hs1 L hR
        rw [hR] at hq
        simp only [a1] at hq
        refine r_iload_n dX5_setOut_88 rfl ?_
        refine r_iconst (-1) dX5_setOut_89 (by decide) ?_
        refine r_icmp_ne 106 dX5_setOut_90 (by decide) (fun c_ => absurd (rfl) c_) (fun _ => ?_)
        refine r_iload dX5_setOut_93 rfl ?_
        refine r_iconst 4 dX5_setOut_95 (by decide) ?_
        refine r_icmp_ne 103 dX5_setOut_96 (by decide) (fun _ => ?_) (fun c_ => absurd c_ (fun z => by have := (nI_eq (b := 4) (by omega) (by decide)).mp z; omega))
        refine r_iload dX5_setOut_103 rfl ?_
        exact r_iret dX5_setOut_105 rfl (Nat.le_of_ble_eq_true rfl) (Nat.le_of_ble_eq_true rfl) (hq)
    · have h0 : ¬ i < 0 := by
        intro z
        have z1 := Int32.lt_iff_toInt_lt.mp z
        have z2 : ¬ i.toInt < (-1 : Int32).toInt := fun y => g2 (Int32.lt_iff_toInt_lt.mpr y)
        have e0 : (0 : Int32).toInt = 0 := by decide
        have e1 : (-1 : Int32).toInt = -1 := by decide
        have e2 : i.toInt ≠ -1 := fun y => e (Int32.toInt_inj.mp (y.trans e1.symm))
        omega
      obtain ⟨q, hq31, rfl⟩ := nI_of h0
      have hst : (∀ L, seF (fun d => ppF kN ow lk ag n (soF ow s n) s d th) 4 0 = some L → ¬ q < L.length) → Rch (mX5_setOut, 12, 0, 0, oQ Q) 0 0 118 [some (.ref 0), some (.int s), some (.int (nI q)), some (.int so), some (.int (nI d))] [] ((mC th kd ow ag lk co sh hs tp hd rl ro rf ol ah tr od tk fo wi ou ge mo (nI n) ev se td fr to tn va im lo), r) := by
        intro g
        have g5 := h3 g1 q hq31 rfl g mo tr tk fo od lo
        refine r_aload_n dX5_setOut_118 rfl ?_
        refine r_bipush (-5) dX5_setOut_119 (by decide) ?_
        refine r_callV (as := [_]) okX5_no bX5 rfl rfl q1633 dX5_setOut_121 (Nat.le_of_ble_eq_true rfl) rfl (Nat.le_of_ble_eq_true rfl) (Nat.le_of_ble_eq_true rfl) (Nat.le_of_ble_eq_true rfl) (pX5_no 5 (by decide) (by decide) ?_)
        refine r_goto 133 dX5_setOut_124 (by decide) ?_
        exact r_iret dX5_setOut_133 rfl (Nat.le_of_ble_eq_true rfl) (Nat.le_of_ble_eq_true rfl) (g5)
      cases hR : seF (fun d => ppF kN ow lk ag n (soF ow s n) s d th) 4 0 with
      | none =>
        have := hs2 hR
        subst this
        refine r_iload_n dX5_setOut_88 rfl ?_
        refine r_iconst (-1) dX5_setOut_89 (by decide) ?_
        refine r_icmp_ne 106 dX5_setOut_90 (by decide) (fun _ => ?_) (fun c_ => absurd c_ (e))
        refine r_iload dX5_setOut_106 rfl ?_
        refine r_iconst 4 dX5_setOut_108 (by decide) ?_
        refine r_icmp_eq 118 dX5_setOut_109 (by decide) (fun _ => ?_) (fun c_ => absurd (rfl) c_)
        exact hst (fun L hL => by rw [hR] at hL; cases hL)
      | some L =>
        obtain ⟨a1, a2, a3⟩ := hs1 L hR
        by_cases hql : q < d
        · have hq2 := h2 g1 q L hq31 rfl hR (by omega) mo tr tk fo od lo
          rw [← a3 q hql] at hq2
          refine r_iload_n dX5_setOut_88 rfl ?_
          refine r_iconst (-1) dX5_setOut_89 (by decide) ?_
          refine r_icmp_ne 106 dX5_setOut_90 (by decide) (fun _ => ?_) (fun c_ => absurd c_ (e))
          refine r_iload dX5_setOut_106 rfl ?_
          refine r_iconst 4 dX5_setOut_108 (by decide) ?_
          refine r_icmp_eq 118 dX5_setOut_109 (by decide) (fun c_ => absurd c_ (fun z => by have := (nI_eq (b := 4) (by omega) (by decide)).mp z; omega)) (fun _ => ?_)
          refine r_iload_n dX5_setOut_112 rfl ?_
          refine r_iload dX5_setOut_113 rfl ?_
          refine r_icmp_lt 127 dX5_setOut_115 (by decide) (fun _ => ?_) (fun c_ => absurd (nI_lt hql (by omega)) c_)
          refine r_aload_n dX5_setOut_127 rfl ?_
          refine r_get bX5 32 (by decide) q1555 dX5_setOut_128 rfl rfl ?_
          refine r_iload_n dX5_setOut_131 rfl ?_
          refine r_ialdN dX5_setOut_132 rfl (by omega) (Nat.le_of_ble_eq_true rfl) ?_
          exact r_iret dX5_setOut_133 rfl (Nat.le_of_ble_eq_true rfl) (Nat.le_of_ble_eq_true rfl) (hq2)
        · refine r_iload_n dX5_setOut_88 rfl ?_
          refine r_iconst (-1) dX5_setOut_89 (by decide) ?_
          refine r_icmp_ne 106 dX5_setOut_90 (by decide) (fun _ => ?_) (fun c_ => absurd c_ (e))
          refine r_iload dX5_setOut_106 rfl ?_
          refine r_iconst 4 dX5_setOut_108 (by decide) ?_
          refine r_icmp_eq 118 dX5_setOut_109 (by decide) (fun c_ => absurd c_ (fun z => by have := (nI_eq (b := 4) (by omega) (by decide)).mp z; omega)) (fun _ => ?_)
          refine r_iload_n dX5_setOut_112 rfl ?_
          refine r_iload dX5_setOut_113 rfl ?_
          refine r_icmp_lt 127 dX5_setOut_115 (by decide) (fun c_ => absurd c_ (nI_nlt (by omega) (by omega))) (fun _ => ?_)
          exact hst (fun L2 hL2 => by rw [hR] at hL2; cases hL2; omega)
  have hgo : inB s 0 (allS n) = true → ¬ i < -1 → Rch (mX5_setOut, 12, 0, 0, oQ Q) 0 0 20 [some (.ref 0), some (.int s), some (.int i), none, none] [] ((mC th kd ow ag lk co sh hs tp hd rl ro rf ol ah tr od tk fo wi ou ge mo (nI n) ev se td fr to tn va im lo), r) := by
    intro g1 g2
    refine r_iconst 0 dX5_setOut_20 (by decide) ?_
    refine r_istore_n dX5_setOut_21 (Nat.le_of_ble_eq_true rfl) ?_
    refine r_iconst 0 dX5_setOut_22 (by decide) ?_
    refine r_istore dX5_setOut_23 (Nat.le_of_ble_eq_true rfl) ?_
    refine loopUp (N := n) (P := fun k => Rch (mX5_setOut, 12, 0, 0, oQ Q) 0 0 25 [some (.ref 0), some (.int s), some (.int i), some (.int (soF ow s k)), some (.int (nI k))] [] ((mC th kd ow ag lk co sh hs tp hd rl ro rf ol ah tr od tk fo wi ou ge mo (nI n) ev se td fr to tn va im lo), r)) ?_ ?_
    · refine r_iload dX5_setOut_25 rfl ?_
      refine r_aload_n dX5_setOut_27 rfl ?_
      refine r_get bX5 1 (by decide) q1524 dX5_setOut_28 rfl rfl ?_
      refine r_icmp_ge 61 dX5_setOut_31 (by decide) (fun _ => ?_) (fun c_ => absurd (Int32.le_refl _) c_)
      refine r_iconst 0 dX5_setOut_61 (by decide) ?_
      refine r_istore dX5_setOut_62 (Nat.le_of_ble_eq_true rfl) ?_
      refine loopUp (N := 4) (P := fun d => seF (fun d => ppF kN ow lk ag n (soF ow s n) s d th) 4 0 = seF (fun d => ppF kN ow lk ag n (soF ow s n) s d th) (4 - d) d → ∀ (mo tr tk fo od : Nat → Int32) (lo : Int32), Rch (mX5_setOut, 12, 0, 0, oQ Q) 0 0 64 [some (.ref 0), some (.int s), some (.int i), some (.int (soF ow s n)), some (.int (nI d))] [] ((mC th kd ow ag lk co sh hs tp hd rl ro rf ol ah tr od tk fo wi ou ge mo (nI n) ev se td fr to tn va im lo), r)) ?_ ?_ rfl _ _ _ _ _ _
      · intro e mo tr tk fo od lo
        have e2 : seF (fun d => ppF kN ow lk ag n (soF ow s n) s d th) 4 0 = none := by rw [e]; rfl
        refine r_iload dX5_setOut_64 rfl ?_
        refine r_iconst 4 dX5_setOut_66 (by decide) ?_
        refine r_icmp_ge 88 dX5_setOut_67 (by decide) (fun _ => ?_) (fun c_ => absurd (geT 4) c_)
        exact hfin g1 g2 4 (Nat.le_refl _) mo tr tk fo od lo _ (fun L hL => by rw [e2] at hL; cases hL) (fun _ => rfl)
      · intro d hd4 ih e mo tr tk fo od lo
        have ed : 4 - d = (4 - (d + 1)) + 1 := by omega
        rw [ed] at e
        have e := e.trans (show seF (fun d => ppF kN ow lk ag n (soF ow s n) s d th) (4 - (d + 1) + 1) d = (match ppF kN ow lk ag n (soF ow s n) s d th with
          | some L => some L
          | none => seF (fun d => ppF kN ow lk ag n (soF ow s n) s d th) (4 - (d + 1)) (d + 1)) from rfl)
        have hP := fun Q' h' => pX5_putsOut (kd := kd) (lk := lk) (ag := ag) (co := co) (sh := sh) (hs := hs) (tp := tp) (hd := hd) (rl := rl) (ro := ro) (rf := rf) (ol := ol) (ah := ah) (wi := wi) (ou := ou) (ge := ge) (ev := ev) (se := se) (td := td) (fr := fr) (to := to) (tn := tn) (va := va) (im := im) (r := r) (s := s) (so := soF ow s n) hn hk ho d 0 th mo tr tk fo od lo Q' (by omega) h'
        simp only [Nat.zero_add] at hP
        refine r_iload dX5_setOut_64 rfl ?_
        refine r_iconst 4 dX5_setOut_66 (by decide) ?_
        refine r_icmp_ge 88 dX5_setOut_67 (by decide) (fun c_ => absurd c_ (geF hd4 (by decide))) (fun _ => ?_)
        refine r_aload_n dX5_setOut_70 rfl ?_
        refine r_iload_n dX5_setOut_71 rfl ?_
        refine r_iconst 0 dX5_setOut_72 (by decide) ?_
        refine r_iload dX5_setOut_73 rfl ?_
        refine r_iload_n dX5_setOut_75 rfl ?_
        refine r_callV (as := [_, _, _, _]) okX5_putsOut bX5 rfl rfl q1865 dX5_setOut_76 (by show 7 + d + 1 ≤ 12; omega) rfl (Nat.le_of_ble_eq_true rfl) (Nat.le_of_ble_eq_true rfl) (Nat.le_of_ble_eq_true rfl) (hP _ (fun mo3 tr3 tk3 fo3 od3 lo3 hm3 => ?_))
        refine r_if_ne 88 dX5_setOut_79 (by decide) (fun c_79 => ?_) (fun c_79 => ?_)
        · have q1 := b2i_n.mp c_79
          cases hF : ppF kN ow lk ag n (soF ow s n) s d th with
          | none => rw [hF] at q1; cases q1
          | some L =>
            rw [hF] at e
            exact hfin g1 g2 d (by omega) mo3 tr3 tk3 fo3 od3 lo3 _ (fun L2 hL2 => by
              rw [e] at hL2
              cases hL2
              refine ⟨ppF_len d th L hF, hd4, fun k hk2 => ?_⟩
              have := hm3.2 L hF k (by rw [ppF_len d th L hF]; exact hk2)
              rw [Nat.zero_add] at this
              exact this) (fun z => by rw [e] at z; cases z)
        · refine r_iincV dX5_setOut_82 rfl (Nat.le_of_ble_eq_true rfl) (incN _) ?_
          refine r_goto 64 dX5_setOut_85 (by decide) ?_
          have q1 := b2i_0.mp c_79
          cases hF : ppF kN ow lk ag n (soF ow s n) s d th with
          | some L => rw [hF] at q1; cases q1
          | none =>
            rw [hF] at e
            exact ih e _ _ _ _ _ _
    · intro k hk2 ih
      refine r_iload dX5_setOut_25 rfl ?_
      refine r_aload_n dX5_setOut_27 rfl ?_
      refine r_get bX5 1 (by decide) q1524 dX5_setOut_28 rfl rfl ?_
      refine r_icmp_ge 61 dX5_setOut_31 (by decide) (fun c_ => absurd c_ (geF hk2 (by omega))) (fun _ => ?_)
      refine r_iload_n dX5_setOut_34 rfl ?_
      refine r_iload dX5_setOut_35 rfl ?_
      refine r_callS (as := [_, _]) okX5_in q1691 dX5_setOut_37 (Nat.le_of_ble_eq_true rfl) rfl (Nat.le_of_ble_eq_true rfl) (Nat.le_of_ble_eq_true rfl) (Nat.le_of_ble_eq_true rfl) (pX5_in ?_)
      refine r_if_eq 55 dX5_setOut_40 (by decide) (fun c_40 => ?_) (fun c_40 => ?_)
      · refine r_iincV dX5_setOut_55 rfl (Nat.le_of_ble_eq_true rfl) (incN _) ?_
        refine r_goto 25 dX5_setOut_58 (by decide) ?_
        first | (have q1 := b2i_0.mp c_40; simp only [soF, q1, Bool.false_eq_true, if_false, or0] at ih; exact ih) | (have q1 := b2i_n.mp c_40; simp only [soF, q1, if_true] at ih; exact ih)
      · refine r_iload_n dX5_setOut_43 rfl ?_
        refine r_iconst 1 dX5_setOut_44 (by decide) ?_
        refine r_aload_n dX5_setOut_45 rfl ?_
        refine r_get bX5 3 (by decide) q1526 dX5_setOut_46 rfl rfl ?_
        refine r_iload dX5_setOut_49 rfl ?_
        refine r_ialdN dX5_setOut_51 rfl (by omega) (Nat.le_of_ble_eq_true rfl) ?_
        refine r_ishl dX5_setOut_52 ?_
        refine r_ior dX5_setOut_53 ?_
        refine r_istore_n dX5_setOut_54 (Nat.le_of_ble_eq_true rfl) ?_
        refine r_iincV dX5_setOut_55 rfl (Nat.le_of_ble_eq_true rfl) (incN _) ?_
        refine r_goto 25 dX5_setOut_58 (by decide) ?_
        first | (have q1 := b2i_0.mp c_40; simp only [soF, q1, Bool.false_eq_true, if_false, or0] at ih; exact ih) | (have q1 := b2i_n.mp c_40; simp only [soF, q1, if_true] at ih; exact ih)
  refine r_aload_n dX5_setOut_0 rfl ?_
  refine r_iload_n dX5_setOut_1 rfl ?_
  refine r_callV (as := [_]) okX5_isSet bX5 rfl rfl q1824 dX5_setOut_2 (Nat.le_of_ble_eq_true rfl) rfl (Nat.le_of_ble_eq_true rfl) (Nat.le_of_ble_eq_true rfl) (Nat.le_of_ble_eq_true rfl) (pX5_isSetN hn ?_)
  refine r_if_eq 13 dX5_setOut_5 (by decide) (fun c_5 => ?_) (fun c_5 => ?_)
  · refine r_aload_n dX5_setOut_13 rfl ?_
    refine r_bipush (-2) dX5_setOut_14 (by decide) ?_
    refine r_callV (as := [_]) okX5_no bX5 rfl rfl q1633 dX5_setOut_16 (Nat.le_of_ble_eq_true rfl) rfl (Nat.le_of_ble_eq_true rfl) (Nat.le_of_ble_eq_true rfl) (Nat.le_of_ble_eq_true rfl) (pX5_no 2 (by decide) (by decide) ?_)
    exact r_iret dX5_setOut_19 rfl (Nat.le_of_ble_eq_true rfl) (Nat.le_of_ble_eq_true rfl) (hbad (by first | exact Or.inl (b2i_0.mp c_5) | exact Or.inr (Int32.not_le.mp c_10)))
  · refine r_iload_n dX5_setOut_8 rfl ?_
    refine r_iconst (-1) dX5_setOut_9 (by decide) ?_
    refine r_icmp_ge 20 dX5_setOut_10 (by decide) (fun c_10 => ?_) (fun c_10 => ?_)
    · exact hgo (b2i_n.mp c_5) (Int32.not_lt.mpr c_10)
    · refine r_aload_n dX5_setOut_13 rfl ?_
      refine r_bipush (-2) dX5_setOut_14 (by decide) ?_
      refine r_callV (as := [_]) okX5_no bX5 rfl rfl q1633 dX5_setOut_16 (Nat.le_of_ble_eq_true rfl) rfl (Nat.le_of_ble_eq_true rfl) (Nat.le_of_ble_eq_true rfl) (Nat.le_of_ble_eq_true rfl) (pX5_no 2 (by decide) (by decide) ?_)
      exact r_iret dX5_setOut_19 rfl (Nat.le_of_ble_eq_true rfl) (Nat.le_of_ble_eq_true rfl) (hbad (by first | exact Or.inl (b2i_0.mp c_5) | exact Or.inr (Int32.not_le.mp c_10)))
end MM
