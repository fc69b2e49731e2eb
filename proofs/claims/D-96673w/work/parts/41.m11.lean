set_option maxRecDepth 100000
/-! the reference: twice, what must be set out -/
section PP
variable (kN : Nat → Nat) (ow lk ag : Nat → Int32) (n : Nat)
/-- the first empty place; none -/
def feF (th : Nat → Int32) : Int32 := fstI (fun p => th p == -1) 12
/-- sorts tried one behind the other, q of them left -/
def ppS (F : (Nat → Int32) → Option (List Int32)) (so : Int32) (p : Nat) (th : Nat → Int32) : Nat → Option (List Int32)
  | 0 => none
  | q + 1 => if hasB so (nI (8 - (q + 1))) = true then (match F (upd th p (nI (8 - (q + 1)))) with
    | some L => some (nI (8 - (q + 1)) :: L)
    | none => ppS F so p th q) else ppS F so p th q
/-- the first row of d sorts that makes all of a set glad -/
def ppF (so set : Int32) : Nat → (Nat → Int32) → Option (List Int32)
  | 0, th => if gcF kN ow lk ag n th set = bcF set then some [] else none
  | d + 1, th => if feF th = -1 then none else ppS (fun th' => ppF so set d th') so (feF th).toNatClampNeg th 8
end PP
/-- sorts that somebody of a set wants most -/
def soF (ow : Nat → Int32) (set : Int32) : Nat → Int32
  | 0 => 0
  | l + 1 => soF ow set l ||| (if hasB set (nI l) = true then 1 <<< (ow l &&& 31) else 0)
section MM
variable {th kd ow ag lk co sh hs tp hd rl : Nat → Int32} {ro : Nat → Int64} {rf ol ah tr od tk fo wi ou ge mo : Nat → Int32} {my ev se td fr to tn va im lo : Int32} {r : List AC × List AC × List AC} {Q : Option Value → AHp → Prop}
variable {n : Nat} {kN : Nat → Nat}
theorem pX5_twice {s t : Int32} (hn : n ≤ 8) (hk : ∀ j, j < n → kd j = nI (kN j) ∧ kN j < 6) (ho : ∀ j, j < n → ow j ≠ -1) (hbad : (inB s 0 (allS n) && inB t 0 (allS n)) = false → Q (some (.int (-2))) ((mC th kd ow ag lk co sh hs tp hd rl ro (upd rf 2 (rf 2 + 1)) ol ah tr od tk fo wi ou ge mo (nI n) ev se td fr to tn va im lo), r)) (hok : inB s 0 (allS n) = true → inB t 0 (allS n) = true → ∀ (tr tk fo od : Nat → Int32) (lo : Int32), Q (some (.int (twF kN ow lk ag n th s t))) ((mC th kd ow ag lk co sh hs tp hd rl ro rf ol ah tr od tk fo wi ou ge mo (nI n) ev se td fr to tn va im lo), r)) : AMet mX5_twice 6 0 0 [.ref 0, .int s, .int t] ((mC th kd ow ag lk co sh hs tp hd rl ro rf ol ah tr od tk fo wi ou ge mo (nI n) ev se td fr to tn va im lo), r) Q := by
  refine AMet.ofRch rfl rfl (Nat.le_of_ble_eq_true rfl) ?_
  have hgo : inB s 0 (allS n) = true → inB t 0 (allS n) = true → Rch (mX5_twice, 6, 0, 0, oQ Q) 0 0 23 [some (.ref 0), some (.int s), some (.int t), none] [] ((mC th kd ow ag lk co sh hs tp hd rl ro rf ol ah tr od tk fo wi ou ge mo (nI n) ev se td fr to tn va im lo), r) := by
    intro g1 g2
    refine r_aload_n dX5_twice_23 rfl ?_
    refine r_iload_n dX5_twice_24 rfl ?_
    refine r_callV (as := [_]) okX5_runs bX5 rfl rfl q1679 dX5_twice_25 (Nat.le_of_ble_eq_true rfl) rfl (Nat.le_of_ble_eq_true rfl) (Nat.le_of_ble_eq_true rfl) (Nat.le_of_ble_eq_true rfl) (pX5_runs hn hk ho (fun od2 hod => ?_))
    refine r_iconst 0 dX5_twice_28 (by decide) ?_
    refine r_istore_n dX5_twice_29 (Nat.le_of_ble_eq_true rfl) ?_
    refine eqP (P := fun z => Rch (mX5_twice, 6, 0, 0, oQ Q) 0 0 30 [some (.ref 0), some (.int s), some (.int t), some (.int (nI 0))] [] ((mC th kd ow ag lk co sh hs tp hd rl ro rf ol ah ((evR kN ow lk ag n th s).1) (od2) (z) ((evR kN ow lk ag n th s).2.2) wi ou ge mo (nI n) ev se td fr to tn va im (nI (ordL ag s n).length)), r)) (fill_0 (fun _ => 0) (evR kN ow lk ag n th s).2.1) ?_
    refine loopUp (N := 8) (P := fun k => Rch (mX5_twice, 6, 0, 0, oQ Q) 0 0 30 [some (.ref 0), some (.int s), some (.int t), some (.int (nI k))] [] ((mC th kd ow ag lk co sh hs tp hd rl ro rf ol ah ((evR kN ow lk ag n th s).1) (od2) (fillF (fun _ => 0) (evR kN ow lk ag n th s).2.1 k) ((evR kN ow lk ag n th s).2.2) wi ou ge mo (nI n) ev se td fr to tn va im (nI (ordL ag s n).length)), r)) ?_ ?_
    · refine r_iload_n dX5_twice_30 rfl ?_
      refine r_bipush 8 dX5_twice_31 (by decide) ?_
      refine r_icmp_ge 49 dX5_twice_33 (by decide) (fun _ => ?_) (fun c_ => absurd (geT 8) c_)
      refine r_norm (a := 144) (n := 8) (fun _ => 0) rfl (fun j hj => fill_in hj) ?_
      refine r_aload_n dX5_twice_49 rfl ?_
      refine r_iload_n dX5_twice_50 rfl ?_
      refine r_callV (as := [_]) okX5_orders bX5 rfl rfl q1687 dX5_twice_51 (Nat.le_of_ble_eq_true rfl) rfl (Nat.le_of_ble_eq_true rfl) (Nat.le_of_ble_eq_true rfl) (Nat.le_of_ble_eq_true rfl) (pX5_orders hn (fun od3 hod3 => ?_))
      refine r_iconst 0 dX5_twice_54 (by decide) ?_
      refine r_istore_n dX5_twice_55 (Nat.le_of_ble_eq_true rfl) ?_
      have hlen := ordL_len ag t n
      have hfin : ∀ (tk fo od : Nat → Int32) (lo : Int32), Q (some (.int (bitsI (fun p => (runS kN ow lk (ordL ag t n) ((evR kN ow lk ag n th s).1, fun _ => 0, (evR kN ow lk ag n th s).2.2)).1 p != -1) 12))) ((mC th kd ow ag lk co sh hs tp hd rl ro rf ol ah ((runS kN ow lk (ordL ag t n) ((evR kN ow lk ag n th s).1, fun _ => 0, (evR kN ow lk ag n th s).2.2)).1) od tk fo wi ou ge mo (nI n) ev se td fr to tn va im lo), r) := by
        intro tk fo od lo
        refine qv ?_ (hok g1 g2 _ tk fo od lo)
        unfold twF
        rw [run_1 kN ow lk (ordL ag t n) (S := ((evR kN ow lk ag n th s).1, fun _ => 0, (evR kN ow lk ag n th s).2.2)) (S' := ((evR kN ow lk ag n th s).1, fun _ => 0, fun _ => -1)) rfl]
      refine loopUp (N := (ordL ag t n).length) (P := fun k => Rch (mX5_twice, 6, 0, 0, oQ Q) 0 0 56 [some (.ref 0), some (.int s), some (.int t), some (.int (nI k))] [] ((mC th kd ow ag lk co sh hs tp hd rl ro rf ol ah ((runS kN ow lk ((ordL ag t n).take k) ((evR kN ow lk ag n th s).1, fun _ => 0, (evR kN ow lk ag n th s).2.2)).1) (od3) ((runS kN ow lk ((ordL ag t n).take k) ((evR kN ow lk ag n th s).1, fun _ => 0, (evR kN ow lk ag n th s).2.2)).2.1) ((runS kN ow lk ((ordL ag t n).take k) ((evR kN ow lk ag n th s).1, fun _ => 0, (evR kN ow lk ag n th s).2.2)).2.2) wi ou ge mo (nI n) ev se td fr to tn va im (nI (ordL ag t n).length)), r)) ?_ ?_
      · rw [List.take_length]
        refine r_iload_n dX5_twice_56 rfl ?_
        refine r_aload_n dX5_twice_57 rfl ?_
        refine r_get bX5 25 (by decide) q1548 dX5_twice_58 rfl rfl ?_
        refine r_icmp_ge 80 dX5_twice_61 (by decide) (fun _ => ?_) (fun c_ => absurd (Int32.le_refl _) c_)
        refine r_aload_n dX5_twice_80 rfl ?_
        refine r_callV (as := []) okX5_leftThen bX5 rfl rfl q1828 dX5_twice_81 (Nat.le_of_ble_eq_true rfl) rfl (Nat.le_of_ble_eq_true rfl) (Nat.le_of_ble_eq_true rfl) (Nat.le_of_ble_eq_true rfl) (pX5_leftThen ?_)
        exact r_iret dX5_twice_84 rfl (Nat.le_of_ble_eq_true rfl) (Nat.le_of_ble_eq_true rfl) (hfin _ _ _ _)
      · intro k hk2 ih
        have e0 := hod3 k hk2
        have e1 : (ordL ag t n).getD k 0 < n := ordL_lt ag t n _ (getD_mem hk2)
        rw [runS_succ _ _ _ hk2] at ih
        refine r_iload_n dX5_twice_56 rfl ?_
        refine r_aload_n dX5_twice_57 rfl ?_
        refine r_get bX5 25 (by decide) q1548 dX5_twice_58 rfl rfl ?_
        refine r_icmp_ge 80 dX5_twice_61 (by decide) (fun c_ => absurd c_ (geF hk2 (by omega))) (fun _ => ?_)
        refine r_aload_n dX5_twice_64 rfl ?_
        refine r_aload_n dX5_twice_65 rfl ?_
        refine r_get bX5 26 (by decide) q1549 dX5_twice_66 rfl rfl ?_
        refine r_iload_n dX5_twice_69 rfl ?_
        refine r_ialdN dX5_twice_70 rfl (by omega) (Nat.le_of_ble_eq_true rfl) ?_
        rw [e0]
        refine r_callV (as := [_]) okX5_lookerGoes bX5 rfl rfl q1694 dX5_twice_71 (Nat.le_of_ble_eq_true rfl) rfl (Nat.le_of_ble_eq_true rfl) (Nat.le_of_ble_eq_true rfl) (Nat.le_of_ble_eq_true rfl) (pX5_lookerGoes (by omega) (hk _ e1).1 (hk _ e1).2 (ho _ e1) ?_)
        refine r_iincV dX5_twice_74 rfl (Nat.le_of_ble_eq_true rfl) (incN _) ?_
        refine r_goto 56 dX5_twice_77 (by decide) ?_
        exact ih
    · intro k hk2 ih
      refine r_iload_n dX5_twice_30 rfl ?_
      refine r_bipush 8 dX5_twice_31 (by decide) ?_
      refine r_icmp_ge 49 dX5_twice_33 (by decide) (fun c_ => absurd c_ (geF hk2 (by decide))) (fun _ => ?_)
      refine r_aload_n dX5_twice_36 rfl ?_
      refine r_get bX5 27 (by decide) q1550 dX5_twice_37 rfl rfl ?_
      refine r_iload_n dX5_twice_40 rfl ?_
      refine r_iconst 0 dX5_twice_41 (by decide) ?_
      refine r_iastN dX5_twice_42 rfl (by omega) (Nat.le_of_ble_eq_true rfl) ?_
      refine r_iincV dX5_twice_43 rfl (Nat.le_of_ble_eq_true rfl) (incN _) ?_
      refine r_goto 30 dX5_twice_46 (by decide) ?_
      rw [← fill_up] at ih
      exact ih
  refine r_aload_n dX5_twice_0 rfl ?_
  refine r_iload_n dX5_twice_1 rfl ?_
  refine r_callV (as := [_]) okX5_isSet bX5 rfl rfl q1824 dX5_twice_2 (Nat.le_of_ble_eq_true rfl) rfl (Nat.le_of_ble_eq_true rfl) (Nat.le_of_ble_eq_true rfl) (Nat.le_of_ble_eq_true rfl) (pX5_isSetN hn ?_)
  refine r_if_eq 16 dX5_twice_5 (by decide) (fun c_5 => ?_) (fun c_5 => ?_)
  · refine r_aload_n dX5_twice_16 rfl ?_
    refine r_bipush (-2) dX5_twice_17 (by decide) ?_
    refine r_callV (as := [_]) okX5_no bX5 rfl rfl q1633 dX5_twice_19 (Nat.le_of_ble_eq_true rfl) rfl (Nat.le_of_ble_eq_true rfl) (Nat.le_of_ble_eq_true rfl) (Nat.le_of_ble_eq_true rfl) (pX5_no 2 (by decide) (by decide) ?_)
    exact r_iret dX5_twice_22 rfl (Nat.le_of_ble_eq_true rfl) (Nat.le_of_ble_eq_true rfl) (hbad (by simp_all [b2i_0]))
  · refine r_aload_n dX5_twice_8 rfl ?_
    refine r_iload_n dX5_twice_9 rfl ?_
    refine r_callV (as := [_]) okX5_isSet bX5 rfl rfl q1824 dX5_twice_10 (Nat.le_of_ble_eq_true rfl) rfl (Nat.le_of_ble_eq_true rfl) (Nat.le_of_ble_eq_true rfl) (Nat.le_of_ble_eq_true rfl) (pX5_isSetN hn ?_)
    refine r_if_ne 23 dX5_twice_13 (by decide) (fun c_13 => ?_) (fun c_13 => ?_)
    · exact hgo (b2i_n.mp c_5) (b2i_n.mp c_13)
    · refine r_aload_n dX5_twice_16 rfl ?_
      refine r_bipush (-2) dX5_twice_17 (by decide) ?_
      refine r_callV (as := [_]) okX5_no bX5 rfl rfl q1633 dX5_twice_19 (Nat.le_of_ble_eq_true rfl) rfl (Nat.le_of_ble_eq_true rfl) (Nat.le_of_ble_eq_true rfl) (Nat.le_of_ble_eq_true rfl) (pX5_no 2 (by decide) (by decide) ?_)
      exact r_iret dX5_twice_22 rfl (Nat.le_of_ble_eq_true rfl) (Nat.le_of_ble_eq_true rfl) (hbad (by simp_all [b2i_0]))
/-- a row found is laid down from i on, what stood ahead stays -/
def MoL (mo mo' : Nat → Int32) (i : Nat) (R : Option (List Int32)) : Prop := (∀ k, k < i → mo' k = mo k) ∧ ∀ L, R = some L → ∀ k, k < L.length → mo' (i + k) = L.getD k 0
theorem pX5_putsOut {s so : Int32} (hn : n ≤ 8) (hk : ∀ j, j < n → kd j = nI (kN j) ∧ kN j < 6) (ho : ∀ j, j < n → ow j ≠ -1) : ∀ (d i : Nat) (th mo tr tk fo od : Nat → Int32) (lo : Int32) (Q : Option Value → AHp → Prop), i + d ≤ 3 → (∀ (mo' tr tk fo od : Nat → Int32) (lo : Int32), MoL mo mo' i (ppF kN ow lk ag n so s d th) → Q (some (.int (b2i (ppF kN ow lk ag n so s d th).isSome))) ((mC th kd ow ag lk co sh hs tp hd rl ro rf ol ah tr od tk fo wi ou ge (mo') (nI n) ev se td fr to tn va im lo), r)) → AMet mX5_putsOut (7 + d) 0 0 [.ref 0, .int s, .int (nI i), .int (nI (i + d)), .int so] ((mC th kd ow ag lk co sh hs tp hd rl ro rf ol ah tr od tk fo wi ou ge mo (nI n) ev se td fr to tn va im lo), r) Q := by
  intro d
  induction d with
  | zero =>
    intro i th mo tr tk fo od lo Q hi hQ
    refine AMet.ofRch rfl rfl (Nat.le_of_ble_eq_true rfl) ?_
    refine r_iload_n dX5_putsOut_0 rfl ?_
    refine r_iload_n dX5_putsOut_1 rfl ?_
    refine r_icmp_ne 23 dX5_putsOut_2 (by decide) (fun c_ => absurd (rfl) c_) (fun _ => ?_)
    refine r_aload_n dX5_putsOut_5 rfl ?_
    refine r_iload_n dX5_putsOut_6 rfl ?_
    refine r_callV (as := [_]) okX5_gladOf bX5 rfl rfl q1840 dX5_putsOut_7 (Nat.le_of_ble_eq_true rfl) rfl (Nat.le_of_ble_eq_true rfl) (Nat.le_of_ble_eq_true rfl) (Nat.le_of_ble_eq_true rfl) (pX5_gladOf hn hk ho (fun od2 hod => ?_))
    refine r_iload_n dX5_putsOut_10 rfl ?_
    refine r_callS (as := [_]) okJ18_bitCount q1852 dX5_putsOut_11 (Nat.le_of_ble_eq_true rfl) rfl (Nat.le_of_ble_eq_true rfl) (Nat.le_of_ble_eq_true rfl) (Nat.le_of_ble_eq_true rfl) (pJ18_bitCount ?_)
    refine r_icmp_ne 21 dX5_putsOut_14 (by decide) (fun c_14 => ?_) (fun c_14 => ?_)
    · refine r_iconst 0 dX5_putsOut_21 (by decide) ?_
      exact r_zret (ty := .boolean) dX5_putsOut_22 rfl (rfl) (Nat.le_of_ble_eq_true rfl) (Nat.le_of_ble_eq_true rfl) (qi (by simp only [ppF]; first | (rw [if_pos (show gcF kN ow lk ag n th s = bcF s from c_14)]; rfl) | (rw [if_neg (show ¬ gcF kN ow lk ag n th s = bcF s from c_14)]; rfl)) (hQ mo _ _ _ _ _ ⟨fun _ _ => rfl, fun L hL k hk2 => by simp only [ppF] at hL; split at hL <;> cases hL; simp at hk2⟩))
    · refine r_iconst 1 dX5_putsOut_17 (by decide) ?_
      refine r_goto 22 dX5_putsOut_18 (by decide) ?_
      exact r_zret (ty := .boolean) dX5_putsOut_22 rfl (rfl) (Nat.le_of_ble_eq_true rfl) (Nat.le_of_ble_eq_true rfl) (qi (by simp only [ppF]; first | (rw [if_pos (show gcF kN ow lk ag n th s = bcF s from c_14)]; rfl) | (rw [if_neg (show ¬ gcF kN ow lk ag n th s = bcF s from c_14)]; rfl)) (hQ mo _ _ _ _ _ ⟨fun _ _ => rfl, fun L hL k hk2 => by simp only [ppF] at hL; split at hL <;> cases hL; simp at hk2⟩))
  | succ d ihd =>
    intro i th mo tr tk fo od lo Q hi hQ
    refine AMet.ofRch rfl rfl (Nat.le_of_ble_eq_true rfl) ?_
    have e32 : i < 3 := by omega
    have hmain : ∀ q, q < 12 → th q = -1 → feF th = nI q → Rch (mX5_putsOut, 7 + (d + 1), 0, 0, oQ Q) 0 0 59 [some (.ref 0), some (.int s), some (.int (nI i)), some (.int (nI (i + (d + 1)))), some (.int so), some (.int (nI q)), none, none] [] ((mC th kd ow ag lk co sh hs tp hd rl ro rf ol ah tr od tk fo wi ou ge mo (nI n) ev se td fr to tn va im lo), r) := by
      intro q hq hq1 hq2
      have hR : ppF kN ow lk ag n so s (d + 1) th = ppS (fun th' => ppF kN ow lk ag n so s d th') so q th 8 := by
        simp only [ppF]
        rw [if_neg (by rw [hq2]; exact nI_m1 (by omega)), hq2, nI_clamp (by omega)]
      have eth : ∀ x, upd (upd th q x) q (-1) = th := by
        intro x
        rw [upd_upd, ← hq1, upd_id]
      have hend : ∀ (x v z : Int32) (mo' tr tk fo od : Nat → Int32) (lo : Int32), (v = 0 ∨ v = 1) → (MoL mo mo' i (ppF kN ow lk ag n so s (d + 1) th)) → v = b2i (ppF kN ow lk ag n so s (d + 1) th).isSome → Rch (mX5_putsOut, 7 + (d + 1), 0, 0, oQ Q) 0 0 126 [some (.ref 0), some (.int s), some (.int (nI i)), some (.int (nI (i + (d + 1)))), some (.int so), some (.int (nI q)), some (.int v), some (.int z)] [] ((mC (upd th q x) kd ow ag lk co sh hs tp hd rl ro rf ol ah tr od tk fo wi ou ge (mo') (nI n) ev se td fr to tn va im lo), r) := by
        intro x v z mo' tr tk fo od lo hv hm e
        refine r_aload_n dX5_putsOut_126 rfl ?_
        refine r_get bX5 0 (by decide) q1523 dX5_putsOut_127 rfl rfl ?_
        refine r_iload dX5_putsOut_130 rfl ?_
        refine r_iconst (-1) dX5_putsOut_132 (by decide) ?_
        refine r_iastN dX5_putsOut_133 rfl (by omega) (Nat.le_of_ble_eq_true rfl) ?_
        refine r_iload dX5_putsOut_134 rfl ?_
        exact r_zret (ty := .boolean) dX5_putsOut_136 rfl (by rcases hv with h | h <;> rw [h] <;> rfl) (Nat.le_of_ble_eq_true rfl) (Nat.le_of_ble_eq_true rfl) (by rw [eth]; exact qi e (hQ mo' _ _ _ _ _ hm))
      refine r_iconst 0 dX5_putsOut_59 (by decide) ?_
      refine r_istore dX5_putsOut_60 (Nat.le_of_ble_eq_true rfl) ?_
      refine r_iconst 0 dX5_putsOut_62 (by decide) ?_
      refine r_istore dX5_putsOut_63 (Nat.le_of_ble_eq_true rfl) ?_
      refine eqP (P := fun z => Rch (mX5_putsOut, 7 + (d + 1), 0, 0, oQ Q) 0 0 65 [some (.ref 0), some (.int s), some (.int (nI i)), some (.int (nI (i + (d + 1)))), some (.int so), some (.int (nI q)), some (.int 0), some (.int (nI 0))] [] ((mC (z) kd ow ag lk co sh hs tp hd rl ro rf ol ah tr od tk fo wi ou ge mo (nI n) ev se td fr to tn va im lo), r)) (upd_id th q) ?_
      refine loopUp (N := 8) (P := fun z => ppF kN ow lk ag n so s (d + 1) th = ppS (fun th' => ppF kN ow lk ag n so s d th') so q th (8 - z) → ∀ (x : Int32) (mo2 tr tk fo od : Nat → Int32) (lo : Int32), (∀ k, k < i → mo2 k = mo k) → Rch (mX5_putsOut, 7 + (d + 1), 0, 0, oQ Q) 0 0 65 [some (.ref 0), some (.int s), some (.int (nI i)), some (.int (nI (i + (d + 1)))), some (.int so), some (.int (nI q)), some (.int 0), some (.int (nI z))] [] ((mC (upd th q x) kd ow ag lk co sh hs tp hd rl ro rf ol ah tr od tk fo wi ou ge (mo2) (nI n) ev se td fr to tn va im lo), r)) ?_ ?_ hR _ _ _ _ _ _ _ (fun _ _ => rfl)
      · intro e x mo2 tr tk fo od lo hm
        have e2 : ppF kN ow lk ag n so s (d + 1) th = none := by rw [e]; rfl
        refine r_iload dX5_putsOut_65 rfl ?_
        refine r_bipush 8 dX5_putsOut_67 (by decide) ?_
        refine r_icmp_ge 126 dX5_putsOut_69 (by decide) (fun _ => ?_) (fun c_ => absurd (geT 8) c_)
        refine hend x 0 _ mo2 tr tk fo od lo (Or.inl rfl) ⟨hm, fun L hL => by rw [e2] at hL; cases hL⟩ (by rw [e2]; rfl)
      · intro z hz ih e x mo2 tr tk fo od lo hm
        have e8 : 8 - z = (8 - (z + 1)) + 1 := by omega
        have e9 : 8 - (8 - (z + 1) + 1) = z := by omega
        rw [e8, ppS, e9] at e
        refine r_iload dX5_putsOut_65 rfl ?_
        refine r_bipush 8 dX5_putsOut_67 (by decide) ?_
        refine r_icmp_ge 126 dX5_putsOut_69 (by decide) (fun c_ => absurd c_ (geF hz (by decide))) (fun _ => ?_)
        refine r_iload dX5_putsOut_72 rfl ?_
        refine r_if_ne 126 dX5_putsOut_74 (by decide) (fun c_ => absurd (by decide) c_) (fun _ => ?_)
        refine r_iload dX5_putsOut_77 rfl ?_
        refine r_iload dX5_putsOut_79 rfl ?_
        refine r_callS (as := [_, _]) okX5_in q1691 dX5_putsOut_81 (show 1 + 1 ≤ 7 + (d + 1) by omega) rfl (Nat.le_of_ble_eq_true rfl) (Nat.le_of_ble_eq_true rfl) (Nat.le_of_ble_eq_true rfl) (pX5_in ?_)
        refine r_if_ne 90 dX5_putsOut_84 (by decide) (fun c_84 => ?_) (fun c_84 => ?_)
        · have q1 := b2i_n.mp c_84
          rw [if_pos q1] at e
          refine r_aload_n dX5_putsOut_90 rfl ?_
          refine r_get bX5 32 (by decide) q1555 dX5_putsOut_91 rfl rfl ?_
          refine r_iload_n dX5_putsOut_94 rfl ?_
          refine r_iload dX5_putsOut_95 rfl ?_
          refine r_iastN dX5_putsOut_97 rfl (by omega) (Nat.le_of_ble_eq_true rfl) ?_
          refine r_aload_n dX5_putsOut_98 rfl ?_
          refine r_get bX5 0 (by decide) q1523 dX5_putsOut_99 rfl rfl ?_
          refine r_iload dX5_putsOut_102 rfl ?_
          refine r_iload dX5_putsOut_104 rfl ?_
          refine r_iastN dX5_putsOut_106 rfl (by omega) (Nat.le_of_ble_eq_true rfl) ?_
          refine r_aload_n dX5_putsOut_107 rfl ?_
          refine r_iload_n dX5_putsOut_108 rfl ?_
          refine r_iload_n dX5_putsOut_109 rfl ?_
          refine r_iconst 1 dX5_putsOut_110 (by decide) ?_
          refine r_iadd dX5_putsOut_111 ?_
          rw [upd_upd, nI_1, show i + (d + 1) = (i + 1) + d by omega]
          refine r_iload_n dX5_putsOut_112 rfl ?_
          refine r_iload dX5_putsOut_113 rfl ?_
          refine r_callV (as := [_, _, _, _]) okX5_putsOut bX5 rfl rfl q1865 dX5_putsOut_115 (Nat.le_refl _) rfl (Nat.le_of_ble_eq_true rfl) (Nat.le_of_ble_eq_true rfl) (Nat.le_of_ble_eq_true rfl) (ihd (i + 1) _ _ _ _ _ _ _ _ (by omega) (fun mo3 tr3 tk3 fo3 od3 lo3 hm3 => ?_))
          have hm4 : ∀ k, k < i → mo3 k = mo k := fun k hk2 => by rw [hm3.1 k (by omega), pk_un (by omega)]; exact hm k hk2
          have hm5 : mo3 i = nI z := by rw [hm3.1 i (by omega), pk_us]
          cases hF : ppF kN ow lk ag n so s d (upd th q (nI z)) with
          | none =>
            rw [hF] at e
            have e7 : b2i (none : Option (List Int32)).isSome = 0 := rfl
            rw [e7]
            refine r_istore dX5_putsOut_118 (Nat.le_of_ble_eq_true rfl) ?_
            refine r_iincV dX5_putsOut_120 rfl (Nat.le_of_ble_eq_true rfl) (incN _) ?_
            refine r_goto 65 dX5_putsOut_123 (by decide) ?_
            rw [show (i + 1) + d = i + (d + 1) by omega]
            exact ih e _ mo3 _ _ _ _ _ hm4
          | some L =>
            rw [hF] at e
            have e7 : b2i (some L : Option (List Int32)).isSome = 1 := rfl
            rw [e7]
            have hm6 : MoL mo mo3 i (ppF kN ow lk ag n so s (d + 1) th) := by
              rw [e]
              refine ⟨hm4, fun L2 hL2 k hk2 => ?_⟩
              cases hL2
              match k, hk2 with
              | 0, _ => exact hm5
              | k + 1, hk2 =>
                have := hm3.2 L hF k (by simpa using hk2)
                rw [show i + (k + 1) = i + 1 + k by omega, this]
                rfl
            refine r_istore dX5_putsOut_118 (Nat.le_of_ble_eq_true rfl) ?_
            refine r_iincV dX5_putsOut_120 rfl (Nat.le_of_ble_eq_true rfl) (incN _) ?_
            refine r_goto 65 dX5_putsOut_123 (by decide) ?_
            refine r_iload dX5_putsOut_65 rfl ?_
            refine r_bipush 8 dX5_putsOut_67 (by decide) ?_
            refine r_icmp_ge 126 dX5_putsOut_69 (by decide) (fun c_69 => ?_) (fun c_69 => ?_)
            · rw [show (i + 1) + d = i + (d + 1) by omega]
              exact hend _ 1 _ mo3 _ _ _ _ _ (Or.inr rfl) hm6 (by rw [e]; rfl)
            · refine r_iload dX5_putsOut_72 rfl ?_
              refine r_if_ne 126 dX5_putsOut_74 (by decide) (fun _ => ?_) (fun c_ => absurd c_ (by decide))
              rw [show (i + 1) + d = i + (d + 1) by omega]
              exact hend _ 1 _ mo3 _ _ _ _ _ (Or.inr rfl) hm6 (by rw [e]; rfl)
        · refine r_goto 120 dX5_putsOut_87 (by decide) ?_
          refine r_iincV dX5_putsOut_120 rfl (Nat.le_of_ble_eq_true rfl) (incN _) ?_
          refine r_goto 65 dX5_putsOut_123 (by decide) ?_
          have q1 := b2i_0.mp c_84
          rw [if_neg (by rw [q1]; decide)] at e
          exact ih e x mo2 tr tk fo od lo hm
    have e00 : ¬ nI i = nI (i + (d + 1)) := fun z => by have := (nI_eq (by omega) (by omega)).mp z; omega
    refine r_iload_n dX5_putsOut_0 rfl ?_
    refine r_iload_n dX5_putsOut_1 rfl ?_
    refine r_icmp_ne 23 dX5_putsOut_2 (by decide) (fun _ => ?_) (fun c_ => absurd c_ (e00))
    refine r_iconst 0 dX5_putsOut_23 (by decide) ?_
    refine r_istore dX5_putsOut_24 (Nat.le_of_ble_eq_true rfl) ?_
    refine loopUp (N := 12) (P := fun k => (∀ j, j < k → ¬ th j = -1) → Rch (mX5_putsOut, 7 + (d + 1), 0, 0, oQ Q) 0 0 26 [some (.ref 0), some (.int s), some (.int (nI i)), some (.int (nI (i + (d + 1)))), some (.int so), some (.int (nI k)), none, none] [] ((mC th kd ow ag lk co sh hs tp hd rl ro rf ol ah tr od tk fo wi ou ge mo (nI n) ev se td fr to tn va im lo), r)) ?_ ?_ (fun j hj => by omega)
    · intro hall
      have e2 : feF th = -1 := by
        rcases fstI_cases (fun p => th p == -1) 12 with ⟨h, -⟩ | ⟨q, hq, hc, -⟩
        · exact h
        · exact absurd (by simpa using hc) (hall q hq)
      have e3 : ppF kN ow lk ag n so s (d + 1) th = none := by simp only [ppF]; rw [if_pos e2]
      refine r_iload dX5_putsOut_26 rfl ?_
      refine r_bipush 12 dX5_putsOut_28 (by decide) ?_
      refine r_icmp_ge 50 dX5_putsOut_30 (by decide) (fun _ => ?_) (fun c_ => absurd (geT 12) c_)
      refine r_iload dX5_putsOut_50 rfl ?_
      refine r_bipush 12 dX5_putsOut_52 (by decide) ?_
      refine r_icmp_ne 59 dX5_putsOut_54 (by decide) (fun c_ => absurd (rfl) c_) (fun _ => ?_)
      refine r_iconst 0 dX5_putsOut_57 (by decide) ?_
      exact r_zret (ty := .boolean) dX5_putsOut_58 rfl (rfl) (Nat.le_of_ble_eq_true rfl) (Nat.le_of_ble_eq_true rfl) (qi (by rw [e3]; rfl) (hQ mo _ _ _ _ _ ⟨fun _ _ => rfl, fun L hL => by rw [e3] at hL; cases hL⟩))
    · intro k hk2 ih hall
      have e4 : ¬ nI k = 12 := fun z => by have := (nI_eq (b := 12) (by omega) (by decide)).mp z; omega
      refine r_iload dX5_putsOut_26 rfl ?_
      refine r_bipush 12 dX5_putsOut_28 (by decide) ?_
      refine r_icmp_ge 50 dX5_putsOut_30 (by decide) (fun c_ => absurd c_ (geF hk2 (by decide))) (fun _ => ?_)
      refine r_aload_n dX5_putsOut_33 rfl ?_
      refine r_get bX5 0 (by decide) q1523 dX5_putsOut_34 rfl rfl ?_
      refine r_iload dX5_putsOut_37 rfl ?_
      refine r_ialdN dX5_putsOut_39 rfl (by omega) (Nat.le_of_ble_eq_true rfl) ?_
      refine r_iconst (-1) dX5_putsOut_40 (by decide) ?_
      refine r_icmp_eq 50 dX5_putsOut_41 (by decide) (fun c_41 => ?_) (fun c_41 => ?_)
      · have e5 : feF th = nI k := by
          rcases fstI_cases (fun p => th p == -1) 12 with ⟨-, h⟩ | ⟨q, hq, hc, h, h2⟩
          · have := h k hk2
            rw [c_41] at this
            exact absurd this (by decide)
          · rcases Nat.lt_trichotomy q k with z | z | z
            · exact absurd (by simpa using hc) (hall q z)
            · rw [← z]; exact h
            · have := h2 k z
              rw [c_41] at this
              exact absurd this (by decide)
        refine r_iload dX5_putsOut_50 rfl ?_
        refine r_bipush 12 dX5_putsOut_52 (by decide) ?_
        refine r_icmp_ne 59 dX5_putsOut_54 (by decide) (fun _ => ?_) (fun c_ => absurd c_ (e4))
        exact hmain k hk2 c_41 e5
      · refine r_iincV dX5_putsOut_44 rfl (Nat.le_of_ble_eq_true rfl) (incN _) ?_
        refine r_goto 26 dX5_putsOut_47 (by decide) ?_
        exact ih (fun j hj => by
          by_cases h : j = k
          · rw [h]; exact c_41
          · exact hall j (by omega))
end MM
