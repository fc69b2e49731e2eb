set_option maxRecDepth 100000
/-! the reference: who would have whose -/
def brF (sh ou : Nat → Int32) (n : Nat) (s : Int32) : Int32 := fstI (fun l => ou l == 0 && sh l == s) n
def wsG (b : Nat → Int32) (lk : Int32) : Nat → Nat → Int32 → Int32
  | 0, _, v => v
  | q + 1, k, v => if v = -1 then wsG b lk q (k + 1) (if hasB lk (nI k) = true then b k else v) else v
theorem wsG_s (b : Nat → Int32) (lk : Int32) (q k : Nat) (v : Int32) : wsG b lk (q + 1) k v = if v = -1 then wsG b lk q (k + 1) (if hasB lk (nI k) = true then b k else v) else v := rfl
def wiF (sh ou ow lk : Nat → Int32) (n l : Nat) : Int32 := if wsG (fun k => brF sh ou n (nI k)) (lk l) 8 0 (brF sh ou n (ow l)) = -1 then nI l else wsG (fun k => brF sh ou n (nI k)) (lk l) 8 0 (brF sh ou n (ow l))
def rgG (wN : Nat → Nat) (l : Nat) : Nat → Nat → Bool
  | 0, w => w == l
  | q + 1, w => if w = l then true else rgG wN l q (wN w)
theorem rgG_t {wN : Nat → Nat} {l : Nat} : ∀ q, rgG wN l q l = true
  | 0 => by simp [rgG]
  | q + 1 => by simp [rgG]
section MM
variable {th kd ow ag lk co sh hs tp hd rl : Nat → Int32} {ro : Nat → Int64} {rf ol ah tr od tk fo wi ou ge mo : Nat → Int32} {my ev se td fr to tn va im lo : Int32} {r : List AC × List AC × List AC} {Q : Option Value → AHp → Prop}
variable {n : Nat} {kN : Nat → Nat}
theorem pX5_bringer {s : Int32} (hn : n ≤ 8) (hQ : Q (some (.int (brF sh ou n s))) ((mC th kd ow ag lk co sh hs tp hd rl ro rf ol ah tr od tk fo wi ou ge mo (nI n) ev se td fr to tn va im lo), r)) : AMet mX5_bringer 1 0 0 [.ref 0, .int s] ((mC th kd ow ag lk co sh hs tp hd rl ro rf ol ah tr od tk fo wi ou ge mo (nI n) ev se td fr to tn va im lo), r) Q := by
  refine AMet.ofRch rfl rfl (Nat.le_of_ble_eq_true rfl) ?_
  refine r_iconst 0 dX5_bringer_0 (by decide) ?_
  refine r_istore_n dX5_bringer_1 (Nat.le_of_ble_eq_true rfl) ?_
  refine loopUp (N := n) (P := fun k => brF sh ou n s = fstG (fun l => ou l == 0 && sh l == s) (n - k) k → Rch (mX5_bringer, 1, 0, 0, oQ Q) 0 0 2 [some (.ref 0), some (.int s), some (.int (nI k))] [] ((mC th kd ow ag lk co sh hs tp hd rl ro rf ol ah tr od tk fo wi ou ge mo (nI n) ev se td fr to tn va im lo), r)) ?_ ?_ rfl
  · intro e
    rw [Nat.sub_self] at e
    refine r_iload_n dX5_bringer_2 rfl ?_
    refine r_aload_n dX5_bringer_3 rfl ?_
    refine r_get bX5 1 (by decide) q1524 dX5_bringer_4 rfl rfl ?_
    refine r_icmp_ge 37 dX5_bringer_7 (by decide) (fun _ => ?_) (fun c_ => absurd (Int32.le_refl _) c_)
    refine r_iconst (-1) dX5_bringer_37 (by decide) ?_
    exact r_iret dX5_bringer_38 rfl (Nat.le_of_ble_eq_true rfl) (Nat.le_of_ble_eq_true rfl) (qi e.symm hQ)
  · intro k hk ih e
    refine r_iload_n dX5_bringer_2 rfl ?_
    refine r_aload_n dX5_bringer_3 rfl ?_
    refine r_get bX5 1 (by decide) q1524 dX5_bringer_4 rfl rfl ?_
    refine r_icmp_ge 37 dX5_bringer_7 (by decide) (fun c_ => absurd c_ (geF hk (by omega))) (fun _ => ?_)
    refine r_aload_n dX5_bringer_10 rfl ?_
    refine r_get bX5 30 (by decide) q1553 dX5_bringer_11 rfl rfl ?_
    refine r_iload_n dX5_bringer_14 rfl ?_
    refine r_zaldN dX5_bringer_15 rfl (by omega) (Nat.le_of_ble_eq_true rfl) ?_
    refine r_if_ne 31 dX5_bringer_16 (by decide) (fun c_16 => ?_) (fun c_16 => ?_)
    · refine r_iincV dX5_bringer_31 rfl (Nat.le_of_ble_eq_true rfl) (incN _) ?_
      refine r_goto 2 dX5_bringer_34 (by decide) ?_
      exact ih (e.trans (fstG_f (c := fun l => ou l == 0 && sh l == s) hk (by first | simp [c_26] | simp [c_16])))
    · refine r_aload_n dX5_bringer_19 rfl ?_
      refine r_get bX5 7 (by decide) q1530 dX5_bringer_20 rfl rfl ?_
      refine r_iload_n dX5_bringer_23 rfl ?_
      refine r_ialdN dX5_bringer_24 rfl (by omega) (Nat.le_of_ble_eq_true rfl) ?_
      refine r_iload_n dX5_bringer_25 rfl ?_
      refine r_icmp_ne 31 dX5_bringer_26 (by decide) (fun c_26 => ?_) (fun c_26 => ?_)
      · refine r_iincV dX5_bringer_31 rfl (Nat.le_of_ble_eq_true rfl) (incN _) ?_
        refine r_goto 2 dX5_bringer_34 (by decide) ?_
        exact ih (e.trans (fstG_f (c := fun l => ou l == 0 && sh l == s) hk (by first | simp [c_26] | simp [c_16])))
      · refine r_iload_n dX5_bringer_29 rfl ?_
        exact r_iret dX5_bringer_30 rfl (Nat.le_of_ble_eq_true rfl) (Nat.le_of_ble_eq_true rfl) (qi (by rw [e, fstG_t (c := fun l => ou l == 0 && sh l == s) hk (by simp [c_16, c_26])]) hQ)
theorem pX5_wishOf {l : Nat} (hn : n ≤ 8) (hl : l < n) (hQ : Q (some (.int (wiF sh ou ow lk n l))) ((mC th kd ow ag lk co sh hs tp hd rl ro rf ol ah tr od tk fo wi ou ge mo (nI n) ev se td fr to tn va im lo), r)) : AMet mX5_wishOf 2 0 0 [.ref 0, .int (nI l)] ((mC th kd ow ag lk co sh hs tp hd rl ro rf ol ah tr od tk fo wi ou ge mo (nI n) ev se td fr to tn va im lo), r) Q := by
  refine AMet.ofRch rfl rfl (Nat.le_of_ble_eq_true rfl) ?_
  have hfin : ∀ (v : Int32) (x : Option Value), wsG (fun k => brF sh ou n (nI k)) (lk l) 8 0 (brF sh ou n (ow l)) = v → Rch (mX5_wishOf, 2, 0, 0, oQ Q) 0 0 49 [some (.ref 0), some (.int (nI l)), some (.int v), x] [] ((mC th kd ow ag lk co sh hs tp hd rl ro rf ol ah tr od tk fo wi ou ge mo (nI n) ev se td fr to tn va im lo), r) := by
    intro v x e
    unfold wiF at hQ
    rw [e] at hQ
    refine r_iload_n dX5_wishOf_49 rfl ?_
    refine r_iconst (-1) dX5_wishOf_50 (by decide) ?_
    refine r_icmp_ne 58 dX5_wishOf_51 (by decide) (fun c_51 => ?_) (fun c_51 => ?_)
    · refine r_iload_n dX5_wishOf_58 rfl ?_
      exact r_iret dX5_wishOf_59 rfl (Nat.le_of_ble_eq_true rfl) (Nat.le_of_ble_eq_true rfl) (by first | (have q1 : v = -1 := c_51; rw [if_pos q1] at hQ; exact hQ) | (have q1 : ¬ v = -1 := c_51; rw [if_neg q1] at hQ; exact hQ))
    · refine r_iload_n dX5_wishOf_54 rfl ?_
      refine r_goto 59 dX5_wishOf_55 (by decide) ?_
      exact r_iret dX5_wishOf_59 rfl (Nat.le_of_ble_eq_true rfl) (Nat.le_of_ble_eq_true rfl) (by first | (have q1 : v = -1 := c_51; rw [if_pos q1] at hQ; exact hQ) | (have q1 : ¬ v = -1 := c_51; rw [if_neg q1] at hQ; exact hQ))
  refine r_aload_n dX5_wishOf_0 rfl ?_
  refine r_aload_n dX5_wishOf_1 rfl ?_
  refine r_get bX5 3 (by decide) q1526 dX5_wishOf_2 rfl rfl ?_
  refine r_iload_n dX5_wishOf_5 rfl ?_
  refine r_ialdN dX5_wishOf_6 rfl (by omega) (Nat.le_of_ble_eq_true rfl) ?_
  refine r_callV (as := [_]) okX5_bringer bX5 rfl rfl q1979 dX5_wishOf_7 (Nat.le_of_ble_eq_true rfl) rfl (Nat.le_of_ble_eq_true rfl) (Nat.le_of_ble_eq_true rfl) (Nat.le_of_ble_eq_true rfl) (pX5_bringer hn ?_)
  refine r_istore_n dX5_wishOf_10 (Nat.le_of_ble_eq_true rfl) ?_
  refine r_iconst 0 dX5_wishOf_11 (by decide) ?_
  refine r_istore_n dX5_wishOf_12 (Nat.le_of_ble_eq_true rfl) ?_
  refine loopUp (N := 8) (P := fun k => ∀ v, wsG (fun k => brF sh ou n (nI k)) (lk l) 8 0 (brF sh ou n (ow l)) = wsG (fun k => brF sh ou n (nI k)) (lk l) (8 - k) k v → Rch (mX5_wishOf, 2, 0, 0, oQ Q) 0 0 13 [some (.ref 0), some (.int (nI l)), some (.int v), some (.int (nI k))] [] ((mC th kd ow ag lk co sh hs tp hd rl ro rf ol ah tr od tk fo wi ou ge mo (nI n) ev se td fr to tn va im lo), r)) ?_ ?_ _ (by rw [Nat.sub_zero])
  · intro v e
    rw [Nat.sub_self, wsG] at e
    refine r_iload_n dX5_wishOf_13 rfl ?_
    refine r_bipush 8 dX5_wishOf_14 (by decide) ?_
    refine r_icmp_ge 49 dX5_wishOf_16 (by decide) (fun _ => ?_) (fun c_ => absurd (geT 8) c_)
    exact hfin _ _ e
  · intro k hk ih v e
    rw [show 8 - k = (8 - (k + 1)) + 1 by omega, wsG_s _ _ (8 - (k + 1)) k v] at e
    by_cases g : v = -1
    · rw [if_pos g] at e
      refine r_iload_n dX5_wishOf_13 rfl ?_
      refine r_bipush 8 dX5_wishOf_14 (by decide) ?_
      refine r_icmp_ge 49 dX5_wishOf_16 (by decide) (fun c_ => absurd c_ (geF hk (by decide))) (fun _ => ?_)
      refine r_iload_n dX5_wishOf_19 rfl ?_
      refine r_iconst (-1) dX5_wishOf_20 (by decide) ?_
      refine r_icmp_ne 49 dX5_wishOf_21 (by decide) (fun c_ => absurd (g) c_) (fun _ => ?_)
      refine r_aload_n dX5_wishOf_24 rfl ?_
      refine r_get bX5 5 (by decide) q1528 dX5_wishOf_25 rfl rfl ?_
      refine r_iload_n dX5_wishOf_28 rfl ?_
      refine r_ialdN dX5_wishOf_29 rfl (by omega) (Nat.le_of_ble_eq_true rfl) ?_
      refine r_iload_n dX5_wishOf_30 rfl ?_
      refine r_callS (as := [_, _]) okX5_in q1691 dX5_wishOf_31 (Nat.le_of_ble_eq_true rfl) rfl (Nat.le_of_ble_eq_true rfl) (Nat.le_of_ble_eq_true rfl) (Nat.le_of_ble_eq_true rfl) (pX5_in ?_)
      refine r_if_eq 43 dX5_wishOf_34 (by decide) (fun c_34 => ?_) (fun c_34 => ?_)
      · refine r_iincV dX5_wishOf_43 rfl (Nat.le_of_ble_eq_true rfl) (incN _) ?_
        refine r_goto 13 dX5_wishOf_46 (by decide) ?_
        first | (have q1 := b2i_0.mp c_34; rw [if_neg (by rw [q1]; decide)] at e; exact ih _ e) | (have q1 := b2i_n.mp c_34; rw [if_pos q1] at e; exact ih _ e)
      · refine r_aload_n dX5_wishOf_37 rfl ?_
        refine r_iload_n dX5_wishOf_38 rfl ?_
        refine r_callV (as := [_]) okX5_bringer bX5 rfl rfl q1979 dX5_wishOf_39 (Nat.le_of_ble_eq_true rfl) rfl (Nat.le_of_ble_eq_true rfl) (Nat.le_of_ble_eq_true rfl) (Nat.le_of_ble_eq_true rfl) (pX5_bringer hn ?_)
        refine r_istore_n dX5_wishOf_42 (Nat.le_of_ble_eq_true rfl) ?_
        refine r_iincV dX5_wishOf_43 rfl (Nat.le_of_ble_eq_true rfl) (incN _) ?_
        refine r_goto 13 dX5_wishOf_46 (by decide) ?_
        first | (have q1 := b2i_0.mp c_34; rw [if_neg (by rw [q1]; decide)] at e; exact ih _ e) | (have q1 := b2i_n.mp c_34; rw [if_pos q1] at e; exact ih _ e)
    · rw [if_neg g] at e
      refine r_iload_n dX5_wishOf_13 rfl ?_
      refine r_bipush 8 dX5_wishOf_14 (by decide) ?_
      refine r_icmp_ge 49 dX5_wishOf_16 (by decide) (fun c_ => absurd c_ (geF hk (by decide))) (fun _ => ?_)
      refine r_iload_n dX5_wishOf_19 rfl ?_
      refine r_iconst (-1) dX5_wishOf_20 (by decide) ?_
      refine r_icmp_ne 49 dX5_wishOf_21 (by decide) (fun _ => ?_) (fun c_ => absurd c_ (g))
      exact hfin _ _ e
theorem pX5_isRing {l : Nat} {wN : Nat → Nat} {A : Nat → Prop} (hn : n ≤ 8) (hA : ∀ j, A j → j < n ∧ wi j = nI (wN j) ∧ A (wN j)) (hl : A l) (hQ : Q (some (.int (b2i (rgG wN l n (wN l))))) ((mC th kd ow ag lk co sh hs tp hd rl ro rf ol ah tr od tk fo wi ou ge mo (nI n) ev se td fr to tn va im lo), r)) : AMet mX5_isRing 1 0 0 [.ref 0, .int (nI l)] ((mC th kd ow ag lk co sh hs tp hd rl ro rf ol ah tr od tk fo wi ou ge mo (nI n) ev se td fr to tn va im lo), r) Q := by
  refine AMet.ofRch rfl rfl (Nat.le_of_ble_eq_true rfl) ?_
  obtain ⟨hl1, hl2, hl3⟩ := hA l hl
  have hfin : ∀ (w : Nat) (x : Option Value), w < n → rgG wN l n (wN l) = (w == l) → Rch (mX5_isRing, 1, 0, 0, oQ Q) 0 0 35 [some (.ref 0), some (.int (nI l)), some (.int (nI w)), x] [] ((mC th kd ow ag lk co sh hs tp hd rl ro rf ol ah tr od tk fo wi ou ge mo (nI n) ev se td fr to tn va im lo), r) := by
    intro w x hw e
    rw [e] at hQ
    by_cases g : w = l
    · subst g
      refine r_iload_n dX5_isRing_35 rfl ?_
      refine r_iload_n dX5_isRing_36 rfl ?_
      refine r_icmp_ne 44 dX5_isRing_37 (by decide) (fun c_ => absurd (rfl) c_) (fun _ => ?_)
      refine r_iconst 1 dX5_isRing_40 (by decide) ?_
      refine r_goto 45 dX5_isRing_41 (by decide) ?_
      exact r_zret (ty := .boolean) dX5_isRing_45 rfl (rfl) (Nat.le_of_ble_eq_true rfl) (Nat.le_of_ble_eq_true rfl) (qi (by simp [b2i]) hQ)
    · refine r_iload_n dX5_isRing_35 rfl ?_
      refine r_iload_n dX5_isRing_36 rfl ?_
      refine r_icmp_ne 44 dX5_isRing_37 (by decide) (fun _ => ?_) (fun c_ => absurd c_ (fun z => g ((nI_eq (by omega) (by omega)).mp z)))
      refine r_iconst 0 dX5_isRing_44 (by decide) ?_
      exact r_zret (ty := .boolean) dX5_isRing_45 rfl (rfl) (Nat.le_of_ble_eq_true rfl) (Nat.le_of_ble_eq_true rfl) (qi (by simp [b2i, g]) hQ)
  refine r_aload_n dX5_isRing_0 rfl ?_
  refine r_get bX5 29 (by decide) q1552 dX5_isRing_1 rfl rfl ?_
  refine r_iload_n dX5_isRing_4 rfl ?_
  refine r_ialdN dX5_isRing_5 rfl (by omega) (Nat.le_of_ble_eq_true rfl) ?_
  rw [hl2]
  refine r_istore_n dX5_isRing_6 (Nat.le_of_ble_eq_true rfl) ?_
  refine r_iconst 0 dX5_isRing_7 (by decide) ?_
  refine r_istore_n dX5_isRing_8 (Nat.le_of_ble_eq_true rfl) ?_
  refine loopUp (N := n) (P := fun k => ∀ w, A w → rgG wN l n (wN l) = rgG wN l (n - k) w → Rch (mX5_isRing, 1, 0, 0, oQ Q) 0 0 9 [some (.ref 0), some (.int (nI l)), some (.int (nI w)), some (.int (nI k))] [] ((mC th kd ow ag lk co sh hs tp hd rl ro rf ol ah tr od tk fo wi ou ge mo (nI n) ev se td fr to tn va im lo), r)) ?_ ?_ _ hl3 rfl
  · intro w hw e
    rw [Nat.sub_self, rgG] at e
    refine r_iload_n dX5_isRing_9 rfl ?_
    refine r_aload_n dX5_isRing_10 rfl ?_
    refine r_get bX5 1 (by decide) q1524 dX5_isRing_11 rfl rfl ?_
    refine r_icmp_ge 35 dX5_isRing_14 (by decide) (fun _ => ?_) (fun c_ => absurd (Int32.le_refl _) c_)
    exact hfin w _ (hA w hw).1 e
  · intro k hk ih w hw e
    obtain ⟨w1, w2, w3⟩ := hA w hw
    rw [show n - k = (n - (k + 1)) + 1 by omega, rgG] at e
    by_cases g : w = l
    · rw [if_pos g] at e
      refine r_iload_n dX5_isRing_9 rfl ?_
      refine r_aload_n dX5_isRing_10 rfl ?_
      refine r_get bX5 1 (by decide) q1524 dX5_isRing_11 rfl rfl ?_
      refine r_icmp_ge 35 dX5_isRing_14 (by decide) (fun c_ => absurd c_ (geF hk (by omega))) (fun _ => ?_)
      refine r_iload_n dX5_isRing_17 rfl ?_
      refine r_iload_n dX5_isRing_18 rfl ?_
      refine r_icmp_eq 35 dX5_isRing_19 (by decide) (fun _ => ?_) (fun c_ => absurd (by rw [g]) c_)
      exact hfin w _ w1 (by rw [e]; simp [g])
    · rw [if_neg g] at e
      refine r_iload_n dX5_isRing_9 rfl ?_
      refine r_aload_n dX5_isRing_10 rfl ?_
      refine r_get bX5 1 (by decide) q1524 dX5_isRing_11 rfl rfl ?_
      refine r_icmp_ge 35 dX5_isRing_14 (by decide) (fun c_ => absurd c_ (geF hk (by omega))) (fun _ => ?_)
      refine r_iload_n dX5_isRing_17 rfl ?_
      refine r_iload_n dX5_isRing_18 rfl ?_
      refine r_icmp_eq 35 dX5_isRing_19 (by decide) (fun c_ => absurd c_ (fun z => g ((nI_eq (by omega) (by omega)).mp z))) (fun _ => ?_)
      refine r_aload_n dX5_isRing_22 rfl ?_
      refine r_get bX5 29 (by decide) q1552 dX5_isRing_23 rfl rfl ?_
      refine r_iload_n dX5_isRing_26 rfl ?_
      refine r_ialdN dX5_isRing_27 rfl (by omega) (Nat.le_of_ble_eq_true rfl) ?_
      rw [w2]
      refine r_istore_n dX5_isRing_28 (Nat.le_of_ble_eq_true rfl) ?_
      refine r_iincV dX5_isRing_29 rfl (Nat.le_of_ble_eq_true rfl) (incN _) ?_
      refine r_goto 9 dX5_isRing_32 (by decide) ?_
      exact ih _ w3 e
end MM
