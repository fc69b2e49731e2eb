set_option maxRecDepth 100000
/-! the reference: evenings whole -/
theorem subN1 (i : Nat) : nI (i + 1) - 1 = nI i := nI_pred i
theorem lt0N {i : Nat} (h : i < 2 ^ 31) : ¬ nI (i + 1) ≤ 0 ∨ 2 ^ 31 ≤ i + 1 := by
  by_cases h1 : i + 1 < 2 ^ 31
  · exact Or.inl (nI_nle (by omega) h1)
  · exact Or.inr (by omega)
def runS (kN : Nat → Nat) (ow lk : Nat → Int32) (L : List Nat) (S : RS) : RS := L.foldl (fun S l => stR kN ow lk l S) S
/-- an evening in thought: panes, what each took, the first of it -/
def evR (kN : Nat → Nat) (ow lk ag : Nat → Int32) (n : Nat) (th : Nat → Int32) (set : Int32) : RS := runS kN ow lk (ordL ag set n) (th, fun _ => 0, fun _ => -1)
theorem runS_succ (kN : Nat → Nat) (ow lk : Nat → Int32) {L : List Nat} {i : Nat} (h : i < L.length) (S : RS) : runS kN ow lk (L.take (i + 1)) S = stR kN ow lk (L.getD i 0) (runS kN ow lk (L.take i) S) := by
  have e : L.take (i + 1) = L.take i ++ [L.getD i 0] := by
    rw [List.take_succ, List.getD_eq_getElem?_getD, List.getElem?_eq_getElem h]
    simp
  unfold runS
  rw [e, List.foldl_append]
  rfl
/-- whether one has a thing of his a -/
def gladB (th : Nat → Int32) (t a : Int32) : Bool := fstI (fun p => hasB t (nI p) && th p == a) 12 != -1
section MM
variable {th kd ow ag lk co sh hs tp hd rl : Nat → Int32} {ro : Nat → Int64} {rf ol ah tr od tk fo wi ou ge mo : Nat → Int32} {my ev se td fr to tn va im lo : Int32} {r : List AC × List AC × List AC} {Q : Option Value → AHp → Prop}
/-- the inner loop: l finds his place -/
theorem pX5_ordI {set : Int32} {l : Nat} {L : List Nat} (hl : l < 8) (hsr : Srt ag L) (hL : ∀ x, x ∈ L → x < l) (hm : L.length ≤ l) (hgo : ∀ od' i, OdL od' (insO ag l L) → Rch (mX5_orders, 2, 0, 0, oQ Q) 0 0 91 [some (.ref 0), some (.int set), some (.int (nI l)), some (.int (nI i))] [] ((mC th kd ow ag lk co sh hs tp hd rl ro rf ol ah tr (od') tk fo wi ou ge mo my ev se td fr to tn va im (nI (L.length + 1))), r)) : ∀ (i : Nat) (od : Nat → Int32), i ≤ L.length → (∀ t, t < i → od t = nI (L.getD t 0)) → (∀ t, i ≤ t → t < L.length → od (t + 1) = nI (L.getD t 0)) → (∀ t, i ≤ t → t < L.length → ag l < ag (L.getD t 0)) → Rch (mX5_orders, 2, 0, 0, oQ Q) 0 0 38 [some (.ref 0), some (.int set), some (.int (nI l)), some (.int (nI i))] [] ((mC th kd ow ag lk co sh hs tp hd rl ro rf ol ah tr od tk fo wi ou ge mo my ev se td fr to tn va im (nI (L.length + 1))), r) := by
  intro i
  induction i with
  | zero =>
    intro od hi h1 h2 h3
    refine r_iload_n dX5_orders_38 rfl ?_
    refine r_if_le 84 dX5_orders_39 (by decide) (fun _ => ?_) (fun c_ => absurd (Int32.le_refl _) c_)
    refine r_aload_n dX5_orders_84 rfl ?_
    refine r_get bX5 26 (by decide) q1549 dX5_orders_85 rfl rfl ?_
    refine r_iload_n dX5_orders_88 rfl ?_
    refine r_iload_n dX5_orders_89 rfl ?_
    refine r_iastN dX5_orders_90 rfl (by omega) (Nat.le_of_ble_eq_true rfl) ?_
    exact hgo _ 0 (odl_ins hsr hi h1 h2 h3 (Or.inl rfl))
  | succ i ih =>
    intro od hi h1 h2 h3
    have e0 := h1 i (by omega)
    have e1 : L.getD i 0 < 8 := Nat.lt_trans (hL _ (getD_mem (by omega))) hl
    refine r_iload_n dX5_orders_38 rfl ?_
    refine r_if_le 84 dX5_orders_39 (by decide) (fun c_ => absurd c_ (nI_nle (by omega) (by omega))) (fun _ => ?_)
    refine r_aload_n dX5_orders_42 rfl ?_
    refine r_get bX5 4 (by decide) q1527 dX5_orders_43 rfl rfl ?_
    refine r_aload_n dX5_orders_46 rfl ?_
    refine r_get bX5 26 (by decide) q1549 dX5_orders_47 rfl rfl ?_
    refine r_iload_n dX5_orders_50 rfl ?_
    refine r_iconst 1 dX5_orders_51 (by decide) ?_
    refine r_isub dX5_orders_52 ?_
    rw [subN1]
    refine r_ialdN dX5_orders_53 rfl (by omega) (Nat.le_of_ble_eq_true rfl) ?_
    rw [e0]
    refine r_ialdN dX5_orders_54 rfl (by omega) (Nat.le_of_ble_eq_true rfl) ?_
    refine r_aload_n dX5_orders_55 rfl ?_
    refine r_get bX5 4 (by decide) q1527 dX5_orders_56 rfl rfl ?_
    refine r_iload_n dX5_orders_59 rfl ?_
    refine r_ialdN dX5_orders_60 rfl (by omega) (Nat.le_of_ble_eq_true rfl) ?_
    refine r_icmp_le 84 dX5_orders_61 (by decide) (fun c_61 => ?_) (fun c_61 => ?_)
    · refine r_aload_n dX5_orders_84 rfl ?_
      refine r_get bX5 26 (by decide) q1549 dX5_orders_85 rfl rfl ?_
      refine r_iload_n dX5_orders_88 rfl ?_
      refine r_iload_n dX5_orders_89 rfl ?_
      refine r_iastN dX5_orders_90 rfl (by omega) (Nat.le_of_ble_eq_true rfl) ?_
      exact hgo _ (i + 1) (odl_ins hsr hi h1 h2 h3 (Or.inr c_61))
    · refine r_aload_n dX5_orders_64 rfl ?_
      refine r_get bX5 26 (by decide) q1549 dX5_orders_65 rfl rfl ?_
      refine r_iload_n dX5_orders_68 rfl ?_
      refine r_aload_n dX5_orders_69 rfl ?_
      refine r_get bX5 26 (by decide) q1549 dX5_orders_70 rfl rfl ?_
      refine r_iload_n dX5_orders_73 rfl ?_
      refine r_iconst 1 dX5_orders_74 (by decide) ?_
      refine r_isub dX5_orders_75 ?_
      rw [subN1]
      refine r_ialdN dX5_orders_76 rfl (by omega) (Nat.le_of_ble_eq_true rfl) ?_
      refine r_iastN dX5_orders_77 rfl (by omega) (Nat.le_of_ble_eq_true rfl) ?_
      refine r_iincV dX5_orders_78 rfl (Nat.le_of_ble_eq_true rfl) (decN i) ?_
      refine r_goto 38 dX5_orders_81 (by decide) ?_
      refine ih _ (by omega) (fun t ht => ?_) (fun t ht1 ht2 => ?_) (fun t ht1 ht2 => ?_)
      · rw [pk_un (by omega)]; exact h1 t (by omega)
      · by_cases a : t = i
        · rw [a, pk_us]; exact e0
        · rw [pk_un (by omega)]; exact h2 t (by omega) ht2
      · by_cases a : t = i
        · rw [a]; exact Int32.not_le.mp c_61
        · exact h3 t (by omega) ht2
theorem pX5_orders {set : Int32} {n : Nat} (hn : n ≤ 8) (hQ : ∀ od', OdL od' (ordL ag set n) → Q none ((mC th kd ow ag lk co sh hs tp hd rl ro rf ol ah tr (od') tk fo wi ou ge mo (nI n) ev se td fr to tn va im (nI (ordL ag set n).length)), r)) : AMet mX5_orders 2 0 0 [.ref 0, .int set] ((mC th kd ow ag lk co sh hs tp hd rl ro rf ol ah tr od tk fo wi ou ge mo (nI n) ev se td fr to tn va im lo), r) Q := by
  refine AMet.ofRch rfl rfl (Nat.le_of_ble_eq_true rfl) ?_
  refine r_aload_n dX5_orders_0 rfl ?_
  refine r_iconst 0 dX5_orders_1 (by decide) ?_
  refine r_put bX5 25 (by decide) rfl q1548 dX5_orders_2 rfl rfl rfl (Nat.le_of_ble_eq_true rfl) ?_
  refine r_iconst 0 dX5_orders_5 (by decide) ?_
  refine r_istore_n dX5_orders_6 (Nat.le_of_ble_eq_true rfl) ?_
  refine loopUp (N := n) (P := fun k => ∀ od, OdL od (ordL ag set k) → Rch (mX5_orders, 2, 0, 0, oQ Q) 0 0 7 [some (.ref 0), some (.int set), some (.int (nI k)), none] [] ((mC th kd ow ag lk co sh hs tp hd rl ro rf ol ah tr od tk fo wi ou ge mo (nI n) ev se td fr to tn va im (nI (ordL ag set k).length)), r)) ?_ ?_ od (fun t ht => by simp [ordL] at ht)
  · intro od ho
    refine r_iload_n dX5_orders_7 rfl ?_
    refine r_aload_n dX5_orders_8 rfl ?_
    refine r_get bX5 1 (by decide) q1524 dX5_orders_9 rfl rfl ?_
    refine r_icmp_ge 97 dX5_orders_12 (by decide) (fun _ => ?_) (fun c_ => absurd (Int32.le_refl _) c_)
    exact r_vret dX5_orders_97 rfl (Nat.le_of_ble_eq_true rfl) (Nat.le_of_ble_eq_true rfl) (hQ od ho)
  · intro k hk ih od ho
    have hlen := ordL_len ag set k
    refine r_iload_n dX5_orders_7 rfl ?_
    refine r_aload_n dX5_orders_8 rfl ?_
    refine r_get bX5 1 (by decide) q1524 dX5_orders_9 rfl rfl ?_
    refine r_icmp_ge 97 dX5_orders_12 (by decide) (fun c_ => absurd c_ (geF hk (by omega))) (fun _ => ?_)
    refine r_iload_n dX5_orders_15 rfl ?_
    refine r_iload_n dX5_orders_16 rfl ?_
    refine r_callS (as := [_, _]) okX5_in q1691 dX5_orders_17 (Nat.le_of_ble_eq_true rfl) rfl (Nat.le_of_ble_eq_true rfl) (Nat.le_of_ble_eq_true rfl) (Nat.le_of_ble_eq_true rfl) (pX5_in ?_)
    refine r_if_ne 26 dX5_orders_20 (by decide) (fun c_20 => ?_) (fun c_20 => ?_)
    · refine r_aload_n dX5_orders_26 rfl ?_
      refine r_dup dX5_orders_27 rfl ?_
      refine r_get bX5 25 (by decide) q1548 dX5_orders_28 rfl rfl ?_
      refine r_dup_x1 dX5_orders_31 rfl rfl ?_
      refine r_iconst 1 dX5_orders_32 (by decide) ?_
      refine r_iadd dX5_orders_33 ?_
      rw [nI_1]
      refine r_put bX5 25 (by decide) rfl q1548 dX5_orders_34 rfl rfl rfl (Nat.le_of_ble_eq_true rfl) ?_
      refine r_istore_n dX5_orders_37 (Nat.le_of_ble_eq_true rfl) ?_
      have hb := b2i_n.mp c_20
      rw [ordL, if_pos hb, insO_len] at ih
      refine pX5_ordI (L := ordL ag set k) (by omega) (ordL_srt ag set k) (ordL_lt ag set k) hlen (fun od2 i hod => ?_) _ _ (Nat.le_refl _) ho (fun t h1 h2 => by omega) (fun t h1 h2 => by omega)
      refine r_forget 3 ?_
      refine r_iincV dX5_orders_91 rfl (Nat.le_of_ble_eq_true rfl) (incN _) ?_
      refine r_goto 7 dX5_orders_94 (by decide) ?_
      exact ih od2 hod
    · refine r_goto 91 dX5_orders_23 (by decide) ?_
      refine r_iincV dX5_orders_91 rfl (Nat.le_of_ble_eq_true rfl) (incN _) ?_
      refine r_goto 7 dX5_orders_94 (by decide) ?_
      have hb := b2i_0.mp c_20
      rw [ordL, if_neg (by rw [hb]; decide)] at ih
      exact ih od ho
theorem pX5_begins {set : Int32} {n : Nat} (hn : n ≤ 8) (hQ : ∀ od', OdL od' (ordL ag set n) → Q none ((mC th kd ow ag lk co sh hs tp hd rl ro rf ol ah (th) (od') (fun _ => 0) (fun _ => -1) wi ou ge mo (nI n) ev se td fr to tn va im (nI (ordL ag set n).length)), r)) : AMet mX5_begins 3 0 0 [.ref 0, .int set] ((mC th kd ow ag lk co sh hs tp hd rl ro rf ol ah tr od tk fo wi ou ge mo (nI n) ev se td fr to tn va im lo), r) Q := by
  refine AMet.ofRch rfl rfl (Nat.le_of_ble_eq_true rfl) ?_
  refine r_iconst 0 dX5_begins_0 (by decide) ?_
  refine r_istore_n dX5_begins_1 (Nat.le_of_ble_eq_true rfl) ?_
  refine eqP (P := fun z => Rch (mX5_begins, 3, 0, 0, oQ Q) 0 0 2 [some (.ref 0), some (.int set), some (.int (nI 0))] [] ((mC th kd ow ag lk co sh hs tp hd rl ro rf ol ah (z) od tk fo wi ou ge mo (nI n) ev se td fr to tn va im lo), r)) (fill_0 th tr) (loopUp (N := 12) (P := fun k => Rch (mX5_begins, 3, 0, 0, oQ Q) 0 0 2 [some (.ref 0), some (.int set), some (.int (nI k))] [] ((mC th kd ow ag lk co sh hs tp hd rl ro rf ol ah (fillF th tr k) od tk fo wi ou ge mo (nI n) ev se td fr to tn va im lo), r)) ?_ ?_)
  · refine r_iload_n dX5_begins_2 rfl ?_
    refine r_bipush 12 dX5_begins_3 (by decide) ?_
    refine r_icmp_ge 26 dX5_begins_5 (by decide) (fun _ => ?_) (fun c_ => absurd (geT 12) c_)
    refine r_iconst 0 dX5_begins_26 (by decide) ?_
    refine r_istore_n dX5_begins_27 (Nat.le_of_ble_eq_true rfl) ?_
    refine r_norm (a := 128) (n := 12) th rfl (fun j hj => fill_in hj) ?_
    refine eqP (P := fun z => Rch (mX5_begins, 3, 0, 0, oQ Q) 0 0 28 [some (.ref 0), some (.int set), some (.int (nI 0))] [] ((mC th kd ow ag lk co sh hs tp hd rl ro rf ol ah (th) od (z) fo wi ou ge mo (nI n) ev se td fr to tn va im lo), r)) (fill_0 (fun _ => 0) tk) ?_
    refine eqP (P := fun z => Rch (mX5_begins, 3, 0, 0, oQ Q) 0 0 28 [some (.ref 0), some (.int set), some (.int (nI 0))] [] ((mC th kd ow ag lk co sh hs tp hd rl ro rf ol ah (th) od (fillF (fun _ => 0) tk 0) (z) wi ou ge mo (nI n) ev se td fr to tn va im lo), r)) (fill_0 (fun _ => -1) fo) ?_
    refine loopUp (N := 8) (P := fun k => Rch (mX5_begins, 3, 0, 0, oQ Q) 0 0 28 [some (.ref 0), some (.int set), some (.int (nI k))] [] ((mC th kd ow ag lk co sh hs tp hd rl ro rf ol ah (th) od (fillF (fun _ => 0) tk k) (fillF (fun _ => -1) fo k) wi ou ge mo (nI n) ev se td fr to tn va im lo), r)) ?_ ?_
    · refine r_iload_n dX5_begins_28 rfl ?_
      refine r_bipush 8 dX5_begins_29 (by decide) ?_
      refine r_icmp_ge 54 dX5_begins_31 (by decide) (fun _ => ?_) (fun c_ => absurd (geT 8) c_)
      refine r_norm (a := 144) (n := 8) (fun _ => 0) rfl (fun j hj => fill_in hj) ?_
      refine r_norm (a := 152) (n := 8) (fun _ => -1) rfl (fun j hj => fill_in hj) ?_
      refine r_aload_n dX5_begins_54 rfl ?_
      refine r_iload_n dX5_begins_55 rfl ?_
      refine r_callV (as := [_]) okX5_orders bX5 rfl rfl q1687 dX5_begins_56 (Nat.le_of_ble_eq_true rfl) rfl (Nat.le_of_ble_eq_true rfl) (Nat.le_of_ble_eq_true rfl) (Nat.le_of_ble_eq_true rfl) (pX5_orders hn (fun od2 ho => ?_))
      exact r_vret dX5_begins_59 rfl (Nat.le_of_ble_eq_true rfl) (Nat.le_of_ble_eq_true rfl) (hQ od2 ho)
    · intro k hk ih
      refine r_iload_n dX5_begins_28 rfl ?_
      refine r_bipush 8 dX5_begins_29 (by decide) ?_
      refine r_icmp_ge 54 dX5_begins_31 (by decide) (fun c_ => absurd c_ (geF hk (by decide))) (fun _ => ?_)
      refine r_aload_n dX5_begins_34 rfl ?_
      refine r_get bX5 27 (by decide) q1550 dX5_begins_35 rfl rfl ?_
      refine r_iload_n dX5_begins_38 rfl ?_
      refine r_iconst 0 dX5_begins_39 (by decide) ?_
      refine r_iastN dX5_begins_40 rfl (by omega) (Nat.le_of_ble_eq_true rfl) ?_
      refine r_aload_n dX5_begins_41 rfl ?_
      refine r_get bX5 28 (by decide) q1551 dX5_begins_42 rfl rfl ?_
      refine r_iload_n dX5_begins_45 rfl ?_
      refine r_iconst (-1) dX5_begins_46 (by decide) ?_
      refine r_iastN dX5_begins_47 rfl (by omega) (Nat.le_of_ble_eq_true rfl) ?_
      refine r_iincV dX5_begins_48 rfl (Nat.le_of_ble_eq_true rfl) (incN _) ?_
      refine r_goto 28 dX5_begins_51 (by decide) ?_
      rw [← fill_up, ← fill_up] at ih
      exact ih
  · intro k hk ih
    refine r_iload_n dX5_begins_2 rfl ?_
    refine r_bipush 12 dX5_begins_3 (by decide) ?_
    refine r_icmp_ge 26 dX5_begins_5 (by decide) (fun c_ => absurd c_ (geF hk (by decide))) (fun _ => ?_)
    refine r_aload_n dX5_begins_8 rfl ?_
    refine r_get bX5 24 (by decide) q1547 dX5_begins_9 rfl rfl ?_
    refine r_iload_n dX5_begins_12 rfl ?_
    refine r_aload_n dX5_begins_13 rfl ?_
    refine r_get bX5 0 (by decide) q1523 dX5_begins_14 rfl rfl ?_
    refine r_iload_n dX5_begins_17 rfl ?_
    refine r_ialdN dX5_begins_18 rfl (by omega) (Nat.le_of_ble_eq_true rfl) ?_
    refine r_iastN dX5_begins_19 rfl (by omega) (Nat.le_of_ble_eq_true rfl) ?_
    refine r_iincV dX5_begins_20 rfl (Nat.le_of_ble_eq_true rfl) (incN _) ?_
    refine r_goto 2 dX5_begins_23 (by decide) ?_
    rw [← fill_up] at ih
    exact ih
theorem pX5_runs {set : Int32} {n : Nat} {kN : Nat → Nat} (hn : n ≤ 8) (hk : ∀ j, j < n → kd j = nI (kN j) ∧ kN j < 6) (ho : ∀ j, j < n → ow j ≠ -1) (hQ : ∀ od', OdL od' (ordL ag set n) → Q none ((mC th kd ow ag lk co sh hs tp hd rl ro rf ol ah ((evR kN ow lk ag n th set).1) (od') ((evR kN ow lk ag n th set).2.1) ((evR kN ow lk ag n th set).2.2) wi ou ge mo (nI n) ev se td fr to tn va im (nI (ordL ag set n).length)), r)) : AMet mX5_runs 5 0 0 [.ref 0, .int set] ((mC th kd ow ag lk co sh hs tp hd rl ro rf ol ah tr od tk fo wi ou ge mo (nI n) ev se td fr to tn va im lo), r) Q := by
  refine AMet.ofRch rfl rfl (Nat.le_of_ble_eq_true rfl) ?_
  refine r_aload_n dX5_runs_0 rfl ?_
  refine r_iload_n dX5_runs_1 rfl ?_
  refine r_callV (as := [_]) okX5_begins bX5 rfl rfl q1683 dX5_runs_2 (Nat.le_of_ble_eq_true rfl) rfl (Nat.le_of_ble_eq_true rfl) (Nat.le_of_ble_eq_true rfl) (Nat.le_of_ble_eq_true rfl) (pX5_begins hn (fun od2 hod => ?_))
  refine r_iconst 0 dX5_runs_5 (by decide) ?_
  refine r_istore_n dX5_runs_6 (Nat.le_of_ble_eq_true rfl) ?_
  have hlen := ordL_len ag set n
  refine loopUp (N := (ordL ag set n).length) (P := fun k => Rch (mX5_runs, 5, 0, 0, oQ Q) 0 0 7 [some (.ref 0), some (.int set), some (.int (nI k))] [] ((mC th kd ow ag lk co sh hs tp hd rl ro rf ol ah ((runS kN ow lk ((ordL ag set n).take k) (th, fun _ => 0, fun _ => -1)).1) (od2) ((runS kN ow lk ((ordL ag set n).take k) (th, fun _ => 0, fun _ => -1)).2.1) ((runS kN ow lk ((ordL ag set n).take k) (th, fun _ => 0, fun _ => -1)).2.2) wi ou ge mo (nI n) ev se td fr to tn va im (nI (ordL ag set n).length)), r)) ?_ ?_
  · rw [List.take_length]
    refine r_iload_n dX5_runs_7 rfl ?_
    refine r_aload_n dX5_runs_8 rfl ?_
    refine r_get bX5 25 (by decide) q1548 dX5_runs_9 rfl rfl ?_
    refine r_icmp_ge 31 dX5_runs_12 (by decide) (fun _ => ?_) (fun c_ => absurd (Int32.le_refl _) c_)
    exact r_vret dX5_runs_31 rfl (Nat.le_of_ble_eq_true rfl) (Nat.le_of_ble_eq_true rfl) (hQ od2 hod)
  · intro k hk2 ih
    have e0 := hod k hk2
    have e1 : (ordL ag set n).getD k 0 < n := ordL_lt ag set n _ (getD_mem hk2)
    rw [runS_succ _ _ _ hk2] at ih
    refine r_iload_n dX5_runs_7 rfl ?_
    refine r_aload_n dX5_runs_8 rfl ?_
    refine r_get bX5 25 (by decide) q1548 dX5_runs_9 rfl rfl ?_
    refine r_icmp_ge 31 dX5_runs_12 (by decide) (fun c_ => absurd c_ (geF hk2 (by omega))) (fun _ => ?_)
    refine r_aload_n dX5_runs_15 rfl ?_
    refine r_aload_n dX5_runs_16 rfl ?_
    refine r_get bX5 26 (by decide) q1549 dX5_runs_17 rfl rfl ?_
    refine r_iload_n dX5_runs_20 rfl ?_
    refine r_ialdN dX5_runs_21 rfl (by omega) (Nat.le_of_ble_eq_true rfl) ?_
    rw [e0]
    refine r_callV (as := [_]) okX5_lookerGoes bX5 rfl rfl q1694 dX5_runs_22 (Nat.le_of_ble_eq_true rfl) rfl (Nat.le_of_ble_eq_true rfl) (Nat.le_of_ble_eq_true rfl) (Nat.le_of_ble_eq_true rfl) (pX5_lookerGoes (by omega) (hk _ e1).1 (hk _ e1).2 (ho _ e1) ?_)
    refine r_iincV dX5_runs_25 rfl (Nat.le_of_ble_eq_true rfl) (incN _) ?_
    refine r_goto 7 dX5_runs_28 (by decide) ?_
    exact ih
theorem pX5_isGlad {j : Nat} (hj : j < 8) (hQ : Q (some (.int (b2i (gladB th (tk j) (ow j))))) ((mC th kd ow ag lk co sh hs tp hd rl ro rf ol ah tr od tk fo wi ou ge mo my ev se td fr to tn va im lo), r)) : AMet mX5_isGlad 2 0 0 [.ref 0, .int (nI j)] ((mC th kd ow ag lk co sh hs tp hd rl ro rf ol ah tr od tk fo wi ou ge mo my ev se td fr to tn va im lo), r) Q := by
  refine AMet.ofRch rfl rfl (Nat.le_of_ble_eq_true rfl) ?_
  refine r_iconst 0 dX5_isGlad_0 (by decide) ?_
  refine r_istore_n dX5_isGlad_1 (Nat.le_of_ble_eq_true rfl) ?_
  refine loopUp (N := 12) (P := fun k => Q (some (.int (b2i (fstG (fun p => hasB (tk j) (nI p) && th p == ow j) (12 - k) k != -1)))) ((mC th kd ow ag lk co sh hs tp hd rl ro rf ol ah tr od tk fo wi ou ge mo my ev se td fr to tn va im lo), r) → Rch (mX5_isGlad, 2, 0, 0, oQ Q) 0 0 2 [some (.ref 0), some (.int (nI j)), some (.int (nI k))] [] ((mC th kd ow ag lk co sh hs tp hd rl ro rf ol ah tr od tk fo wi ou ge mo my ev se td fr to tn va im lo), r)) ?_ ?_ hQ
  · intro hq
    refine r_iload_n dX5_isGlad_2 rfl ?_
    refine r_bipush 12 dX5_isGlad_3 (by decide) ?_
    refine r_icmp_ge 44 dX5_isGlad_5 (by decide) (fun _ => ?_) (fun c_ => absurd (geT 12) c_)
    refine r_iconst 0 dX5_isGlad_44 (by decide) ?_
    exact r_zret (ty := .boolean) dX5_isGlad_45 rfl (rfl) (Nat.le_of_ble_eq_true rfl) (Nat.le_of_ble_eq_true rfl) (hq)
  · intro k hk ih hq
    have e2 := nI_m1 (show k < 2 ^ 31 by omega)
    refine r_iload_n dX5_isGlad_2 rfl ?_
    refine r_bipush 12 dX5_isGlad_3 (by decide) ?_
    refine r_icmp_ge 44 dX5_isGlad_5 (by decide) (fun c_ => absurd c_ (geF hk (by decide))) (fun _ => ?_)
    refine r_aload_n dX5_isGlad_8 rfl ?_
    refine r_get bX5 27 (by decide) q1550 dX5_isGlad_9 rfl rfl ?_
    refine r_iload_n dX5_isGlad_12 rfl ?_
    refine r_ialdN dX5_isGlad_13 rfl (by omega) (Nat.le_of_ble_eq_true rfl) ?_
    refine r_iload_n dX5_isGlad_14 rfl ?_
    refine r_callS (as := [_, _]) okX5_in q1691 dX5_isGlad_15 (Nat.le_of_ble_eq_true rfl) rfl (Nat.le_of_ble_eq_true rfl) (Nat.le_of_ble_eq_true rfl) (Nat.le_of_ble_eq_true rfl) (pX5_in ?_)
    refine r_if_eq 38 dX5_isGlad_18 (by decide) (fun c_18 => ?_) (fun c_18 => ?_)
    · refine r_iincV dX5_isGlad_38 rfl (Nat.le_of_ble_eq_true rfl) (incN _) ?_
      refine r_goto 2 dX5_isGlad_41 (by decide) ?_
      refine ih (qv (congrArg (fun z => b2i (z != -1)) (fstG_f (c := fun p => hasB (tk j) (nI p) && th p == ow j) hk ?_).symm) hq)
      first | (rw [b2i_0.mp c_18]; simp) | simp [c_33]
    · refine r_aload_n dX5_isGlad_21 rfl ?_
      refine r_get bX5 0 (by decide) q1523 dX5_isGlad_22 rfl rfl ?_
      refine r_iload_n dX5_isGlad_25 rfl ?_
      refine r_ialdN dX5_isGlad_26 rfl (by omega) (Nat.le_of_ble_eq_true rfl) ?_
      refine r_aload_n dX5_isGlad_27 rfl ?_
      refine r_get bX5 3 (by decide) q1526 dX5_isGlad_28 rfl rfl ?_
      refine r_iload_n dX5_isGlad_31 rfl ?_
      refine r_ialdN dX5_isGlad_32 rfl (by omega) (Nat.le_of_ble_eq_true rfl) ?_
      refine r_icmp_ne 38 dX5_isGlad_33 (by decide) (fun c_33 => ?_) (fun c_33 => ?_)
      · refine r_iincV dX5_isGlad_38 rfl (Nat.le_of_ble_eq_true rfl) (incN _) ?_
        refine r_goto 2 dX5_isGlad_41 (by decide) ?_
        refine ih (qv (congrArg (fun z => b2i (z != -1)) (fstG_f (c := fun p => hasB (tk j) (nI p) && th p == ow j) hk ?_).symm) hq)
        first | (rw [b2i_0.mp c_18]; simp) | simp [c_33]
      · refine r_iconst 1 dX5_isGlad_36 (by decide) ?_
        exact r_zret (ty := .boolean) dX5_isGlad_37 rfl (rfl) (Nat.le_of_ble_eq_true rfl) (Nat.le_of_ble_eq_true rfl) (qi (by rw [fstG_t (c := fun p => hasB (tk j) (nI p) && th p == ow j) hk (by rw [b2i_n.mp c_18]; simp [c_33])]; simp [b2i, e2]) hq)
theorem pX5_gladOf {set : Int32} {n : Nat} {kN : Nat → Nat} (hn : n ≤ 8) (hk : ∀ j, j < n → kd j = nI (kN j) ∧ kN j < 6) (ho : ∀ j, j < n → ow j ≠ -1) (hQ : ∀ od', OdL od' (ordL ag set n) → Q (some (.int (nI (cntI (fun l => hasB set (nI l) && gladB th ((evR kN ow lk ag n th set).2.1 l) (ow l)) n)))) ((mC th kd ow ag lk co sh hs tp hd rl ro rf ol ah ((evR kN ow lk ag n th set).1) (od') ((evR kN ow lk ag n th set).2.1) ((evR kN ow lk ag n th set).2.2) wi ou ge mo (nI n) ev se td fr to tn va im (nI (ordL ag set n).length)), r)) : AMet mX5_gladOf 6 0 0 [.ref 0, .int set] ((mC th kd ow ag lk co sh hs tp hd rl ro rf ol ah tr od tk fo wi ou ge mo (nI n) ev se td fr to tn va im lo), r) Q := by
  refine AMet.ofRch rfl rfl (Nat.le_of_ble_eq_true rfl) ?_
  refine r_aload_n dX5_gladOf_0 rfl ?_
  refine r_iload_n dX5_gladOf_1 rfl ?_
  refine r_callV (as := [_]) okX5_runs bX5 rfl rfl q1679 dX5_gladOf_2 (Nat.le_of_ble_eq_true rfl) rfl (Nat.le_of_ble_eq_true rfl) (Nat.le_of_ble_eq_true rfl) (Nat.le_of_ble_eq_true rfl) (pX5_runs hn hk ho (fun od2 hod => ?_))
  refine r_iconst 0 dX5_gladOf_5 (by decide) ?_
  refine r_istore_n dX5_gladOf_6 (Nat.le_of_ble_eq_true rfl) ?_
  refine r_iconst 0 dX5_gladOf_7 (by decide) ?_
  refine r_istore_n dX5_gladOf_8 (Nat.le_of_ble_eq_true rfl) ?_
  refine loopUp (N := n) (P := fun k => Rch (mX5_gladOf, 6, 0, 0, oQ Q) 0 0 9 [some (.ref 0), some (.int set), some (.int (nI (cntI (fun l => hasB set (nI l) && gladB th ((evR kN ow lk ag n th set).2.1 l) (ow l)) k))), some (.int (nI k))] [] ((mC th kd ow ag lk co sh hs tp hd rl ro rf ol ah ((evR kN ow lk ag n th set).1) (od2) ((evR kN ow lk ag n th set).2.1) ((evR kN ow lk ag n th set).2.2) wi ou ge mo (nI n) ev se td fr to tn va im (nI (ordL ag set n).length)), r)) ?_ ?_
  · refine r_iload_n dX5_gladOf_9 rfl ?_
    refine r_aload_n dX5_gladOf_10 rfl ?_
    refine r_get bX5 1 (by decide) q1524 dX5_gladOf_11 rfl rfl ?_
    refine r_icmp_ge 42 dX5_gladOf_14 (by decide) (fun _ => ?_) (fun c_ => absurd (Int32.le_refl _) c_)
    refine r_iload_n dX5_gladOf_42 rfl ?_
    exact r_iret dX5_gladOf_43 rfl (Nat.le_of_ble_eq_true rfl) (Nat.le_of_ble_eq_true rfl) (hQ od2 hod)
  · intro k hk2 ih
    refine r_iload_n dX5_gladOf_9 rfl ?_
    refine r_aload_n dX5_gladOf_10 rfl ?_
    refine r_get bX5 1 (by decide) q1524 dX5_gladOf_11 rfl rfl ?_
    refine r_icmp_ge 42 dX5_gladOf_14 (by decide) (fun c_ => absurd c_ (geF hk2 (by omega))) (fun _ => ?_)
    refine r_iload_n dX5_gladOf_17 rfl ?_
    refine r_iload_n dX5_gladOf_18 rfl ?_
    refine r_callS (as := [_, _]) okX5_in q1691 dX5_gladOf_19 (Nat.le_of_ble_eq_true rfl) rfl (Nat.le_of_ble_eq_true rfl) (Nat.le_of_ble_eq_true rfl) (Nat.le_of_ble_eq_true rfl) (pX5_in ?_)
    refine r_if_eq 36 dX5_gladOf_22 (by decide) (fun c_22 => ?_) (fun c_22 => ?_)
    · refine r_iincV dX5_gladOf_36 rfl (Nat.le_of_ble_eq_true rfl) (incN _) ?_
      refine r_goto 9 dX5_gladOf_39 (by decide) ?_
      first | (have g1 := b2i_0.mp c_22; simp only [cntI, g1, Bool.false_and, Bool.false_eq_true, if_false, Nat.add_zero] at ih; exact ih) | (have g1 := b2i_n.mp c_22; have g2 := b2i_0.mp c_30; simp only [cntI, g1, g2, Bool.and_false, Bool.false_eq_true, if_false, Nat.add_zero] at ih; exact ih) | (have g1 := b2i_n.mp c_22; have g2 := b2i_n.mp c_30; simp only [cntI, g1, g2, Bool.and_self, if_true] at ih; exact ih)
    · refine r_aload_n dX5_gladOf_25 rfl ?_
      refine r_iload_n dX5_gladOf_26 rfl ?_
      refine r_callV (as := [_]) okX5_isGlad bX5 rfl rfl q1844 dX5_gladOf_27 (Nat.le_of_ble_eq_true rfl) rfl (Nat.le_of_ble_eq_true rfl) (Nat.le_of_ble_eq_true rfl) (Nat.le_of_ble_eq_true rfl) (pX5_isGlad (by omega) ?_)
      refine r_if_eq 36 dX5_gladOf_30 (by decide) (fun c_30 => ?_) (fun c_30 => ?_)
      · refine r_iincV dX5_gladOf_36 rfl (Nat.le_of_ble_eq_true rfl) (incN _) ?_
        refine r_goto 9 dX5_gladOf_39 (by decide) ?_
        first | (have g1 := b2i_0.mp c_22; simp only [cntI, g1, Bool.false_and, Bool.false_eq_true, if_false, Nat.add_zero] at ih; exact ih) | (have g1 := b2i_n.mp c_22; have g2 := b2i_0.mp c_30; simp only [cntI, g1, g2, Bool.and_false, Bool.false_eq_true, if_false, Nat.add_zero] at ih; exact ih) | (have g1 := b2i_n.mp c_22; have g2 := b2i_n.mp c_30; simp only [cntI, g1, g2, Bool.and_self, if_true] at ih; exact ih)
      · refine r_iincV dX5_gladOf_33 rfl (Nat.le_of_ble_eq_true rfl) (incN _) ?_
        refine r_iincV dX5_gladOf_36 rfl (Nat.le_of_ble_eq_true rfl) (incN _) ?_
        refine r_goto 9 dX5_gladOf_39 (by decide) ?_
        first | (have g1 := b2i_0.mp c_22; simp only [cntI, g1, Bool.false_and, Bool.false_eq_true, if_false, Nat.add_zero] at ih; exact ih) | (have g1 := b2i_n.mp c_22; have g2 := b2i_0.mp c_30; simp only [cntI, g1, g2, Bool.and_false, Bool.false_eq_true, if_false, Nat.add_zero] at ih; exact ih) | (have g1 := b2i_n.mp c_22; have g2 := b2i_n.mp c_30; simp only [cntI, g1, g2, Bool.and_self, if_true] at ih; exact ih)
end MM
