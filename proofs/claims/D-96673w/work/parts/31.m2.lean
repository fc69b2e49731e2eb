set_option maxRecDepth 100000
/-! the reference: an evening -/
section MM
variable {th kd ow ag lk co sh hs tp hd rl : Nat → Int32} {ro : Nat → Int64} {rf ol ah tr od tk fo wi ou ge mo : Nat → Int32} {my ev se td fr to tn va im lo : Int32} {r : List AC × List AC × List AC} {Q : Option Value → AHp → Prop}
theorem pX5_takes {j : Nat} {p : Int32} (hj : j < 8) (hp : PlN p) (hQ : Q none ((mC th kd ow ag lk co sh hs tp hd rl ro rf ol ah ((tkF p (tr, tk j, fo j)).1) od (upd tk j (tkF p (tr, tk j, fo j)).2.1) (upd fo j (tkF p (tr, tk j, fo j)).2.2) wi ou ge mo my ev se td fr to tn va im lo), r)) : AMet mX5_takes 1 0 0 [.ref 0, .int (nI j), .int p] ((mC th kd ow ag lk co sh hs tp hd rl ro rf ol ah tr od tk fo wi ou ge mo my ev se td fr to tn va im lo), r) Q := by
  refine AMet.ofRch rfl rfl (Nat.le_of_ble_eq_true rfl) ?_
  rcases hp with rfl | ⟨q, hq, rfl⟩
  · simp only [tkF, if_true, upd_id] at hQ
    refine r_iload_n dX5_takes_0 rfl ?_
    refine r_iconst (-1) dX5_takes_1 (by decide) ?_
    refine r_icmp_ne 6 dX5_takes_2 (by decide) (fun c_ => absurd (by decide) c_) (fun _ => ?_)
    exact r_vret dX5_takes_5 rfl (Nat.le_of_ble_eq_true rfl) (Nat.le_of_ble_eq_true rfl) (hQ)
  · simp only [tkF, nI_m1 (show q < 2 ^ 31 by omega), if_false, nI_clamp (show q < 2 ^ 31 by omega)] at hQ
    refine r_iload_n dX5_takes_0 rfl ?_
    refine r_iconst (-1) dX5_takes_1 (by decide) ?_
    refine r_icmp_ne 6 dX5_takes_2 (by decide) (fun _ => ?_) (fun c_ => absurd c_ (nI_m1 (by omega)))
    refine r_aload_n dX5_takes_6 rfl ?_
    refine r_get bX5 27 (by decide) q1550 dX5_takes_7 rfl rfl ?_
    refine r_iload_n dX5_takes_10 rfl ?_
    refine r_ialdN dX5_takes_11 rfl (by omega) (Nat.le_of_ble_eq_true rfl) ?_
    refine r_if_ne 22 dX5_takes_12 (by decide) (fun c_12 => ?_) (fun c_12 => ?_)
    · refine r_aload_n dX5_takes_22 rfl ?_
      refine r_get bX5 27 (by decide) q1550 dX5_takes_23 rfl rfl ?_
      refine r_iload_n dX5_takes_26 rfl ?_
      refine r_dup2 dX5_takes_27 rfl rfl ?_
      refine r_ialdN dX5_takes_28 rfl (by omega) (Nat.le_of_ble_eq_true rfl) ?_
      refine r_iconst 1 dX5_takes_29 (by decide) ?_
      refine r_iload_n dX5_takes_30 rfl ?_
      refine r_ishl dX5_takes_31 ?_
      refine r_ior dX5_takes_32 ?_
      refine r_iastN dX5_takes_33 rfl (by omega) (Nat.le_of_ble_eq_true rfl) ?_
      refine r_aload_n dX5_takes_34 rfl ?_
      refine r_get bX5 24 (by decide) q1547 dX5_takes_35 rfl rfl ?_
      refine r_iload_n dX5_takes_38 rfl ?_
      refine r_iconst (-1) dX5_takes_39 (by decide) ?_
      refine r_iastN dX5_takes_40 rfl (by omega) (Nat.le_of_ble_eq_true rfl) ?_
      exact r_vret dX5_takes_41 rfl (Nat.le_of_ble_eq_true rfl) (Nat.le_of_ble_eq_true rfl) (by have hq := hQ; (first | rw [if_pos c_12] at hq | rw [if_neg c_12, upd_id] at hq); exact hq)
    · refine r_aload_n dX5_takes_15 rfl ?_
      refine r_get bX5 28 (by decide) q1551 dX5_takes_16 rfl rfl ?_
      refine r_iload_n dX5_takes_19 rfl ?_
      refine r_iload_n dX5_takes_20 rfl ?_
      refine r_iastN dX5_takes_21 rfl (by omega) (Nat.le_of_ble_eq_true rfl) ?_
      refine r_aload_n dX5_takes_22 rfl ?_
      refine r_get bX5 27 (by decide) q1550 dX5_takes_23 rfl rfl ?_
      refine r_iload_n dX5_takes_26 rfl ?_
      refine r_dup2 dX5_takes_27 rfl rfl ?_
      refine r_ialdN dX5_takes_28 rfl (by omega) (Nat.le_of_ble_eq_true rfl) ?_
      refine r_iconst 1 dX5_takes_29 (by decide) ?_
      refine r_iload_n dX5_takes_30 rfl ?_
      refine r_ishl dX5_takes_31 ?_
      refine r_ior dX5_takes_32 ?_
      refine r_iastN dX5_takes_33 rfl (by omega) (Nat.le_of_ble_eq_true rfl) ?_
      refine r_aload_n dX5_takes_34 rfl ?_
      refine r_get bX5 24 (by decide) q1547 dX5_takes_35 rfl rfl ?_
      refine r_iload_n dX5_takes_38 rfl ?_
      refine r_iconst (-1) dX5_takes_39 (by decide) ?_
      refine r_iastN dX5_takes_40 rfl (by omega) (Nat.le_of_ble_eq_true rfl) ?_
      exact r_vret dX5_takes_41 rfl (Nat.le_of_ble_eq_true rfl) (Nat.le_of_ble_eq_true rfl) (by have hq := hQ; (first | rw [if_pos c_12] at hq | rw [if_neg c_12, upd_id] at hq); exact hq)
theorem pX5_doesLike {j : Nat} {s : Int32} (hj : j < 8) (hQ : Q (some (.int (b2i (likeB (ow j) (lk j) s)))) ((mC th kd ow ag lk co sh hs tp hd rl ro rf ol ah tr od tk fo wi ou ge mo my ev se td fr to tn va im lo), r)) : AMet mX5_doesLike 2 0 0 [.ref 0, .int (nI j), .int s] ((mC th kd ow ag lk co sh hs tp hd rl ro rf ol ah tr od tk fo wi ou ge mo my ev se td fr to tn va im lo), r) Q := by
  refine AMet.ofRch rfl rfl (Nat.le_of_ble_eq_true rfl) ?_
  refine r_iload_n dX5_doesLike_0 rfl ?_
  refine r_iconst (-1) dX5_doesLike_1 (by decide) ?_
  refine r_icmp_eq 32 dX5_doesLike_2 (by decide) (fun c_2 => ?_) (fun c_2 => ?_)
  · refine r_iconst 0 dX5_doesLike_32 (by decide) ?_
    exact r_zret (ty := .boolean) dX5_doesLike_33 rfl (rfl) (Nat.le_of_ble_eq_true rfl) (Nat.le_of_ble_eq_true rfl) (qi (by simp_all [b2i, likeB]) hQ)
  · refine r_iload_n dX5_doesLike_5 rfl ?_
    refine r_aload_n dX5_doesLike_6 rfl ?_
    refine r_get bX5 3 (by decide) q1526 dX5_doesLike_7 rfl rfl ?_
    refine r_iload_n dX5_doesLike_10 rfl ?_
    refine r_ialdN dX5_doesLike_11 rfl (by omega) (Nat.le_of_ble_eq_true rfl) ?_
    refine r_icmp_eq 28 dX5_doesLike_12 (by decide) (fun c_12 => ?_) (fun c_12 => ?_)
    · refine r_iconst 1 dX5_doesLike_28 (by decide) ?_
      refine r_goto 33 dX5_doesLike_29 (by decide) ?_
      exact r_zret (ty := .boolean) dX5_doesLike_33 rfl (rfl) (Nat.le_of_ble_eq_true rfl) (Nat.le_of_ble_eq_true rfl) (qi (by simp_all [b2i, likeB]) hQ)
    · refine r_aload_n dX5_doesLike_15 rfl ?_
      refine r_get bX5 5 (by decide) q1528 dX5_doesLike_16 rfl rfl ?_
      refine r_iload_n dX5_doesLike_19 rfl ?_
      refine r_ialdN dX5_doesLike_20 rfl (by omega) (Nat.le_of_ble_eq_true rfl) ?_
      refine r_iload_n dX5_doesLike_21 rfl ?_
      refine r_callS (as := [_, _]) okX5_in q1691 dX5_doesLike_22 (Nat.le_of_ble_eq_true rfl) rfl (Nat.le_of_ble_eq_true rfl) (Nat.le_of_ble_eq_true rfl) (Nat.le_of_ble_eq_true rfl) (pX5_in ?_)
      refine r_if_eq 32 dX5_doesLike_25 (by decide) (fun c_25 => ?_) (fun c_25 => ?_)
      · refine r_iconst 0 dX5_doesLike_32 (by decide) ?_
        exact r_zret (ty := .boolean) dX5_doesLike_33 rfl (rfl) (Nat.le_of_ble_eq_true rfl) (Nat.le_of_ble_eq_true rfl) (qi (by simp_all [b2i, likeB]) hQ)
      · refine r_iconst 1 dX5_doesLike_28 (by decide) ?_
        refine r_goto 33 dX5_doesLike_29 (by decide) ?_
        exact r_zret (ty := .boolean) dX5_doesLike_33 rfl (rfl) (Nat.le_of_ble_eq_true rfl) (Nat.le_of_ble_eq_true rfl) (qi (by simp_all [b2i, likeB]) hQ)
theorem pX5_look {j : Nat} (hj : j < 8) (hQ : Q (some (.int (loF (ow j) (lk j) tr))) ((mC th kd ow ag lk co sh hs tp hd rl ro rf ol ah tr od tk fo wi ou ge mo my ev se td fr to tn va im lo), r)) : AMet mX5_look 3 0 0 [.ref 0, .int (nI j)] ((mC th kd ow ag lk co sh hs tp hd rl ro rf ol ah tr od tk fo wi ou ge mo my ev se td fr to tn va im lo), r) Q := by
  refine AMet.ofRch rfl rfl (Nat.le_of_ble_eq_true rfl) ?_
  refine r_aload_n dX5_look_0 rfl ?_
  refine r_aload_n dX5_look_1 rfl ?_
  refine r_get bX5 3 (by decide) q1526 dX5_look_2 rfl rfl ?_
  refine r_iload_n dX5_look_5 rfl ?_
  refine r_ialdN dX5_look_6 rfl (by omega) (Nat.le_of_ble_eq_true rfl) ?_
  refine r_callV (as := [_]) okX5_firstWith bX5 rfl rfl q1710 dX5_look_7 (Nat.le_of_ble_eq_true rfl) rfl (Nat.le_of_ble_eq_true rfl) (Nat.le_of_ble_eq_true rfl) (Nat.le_of_ble_eq_true rfl) (pX5_firstWith ?_)
  refine r_istore_n dX5_look_10 (Nat.le_of_ble_eq_true rfl) ?_
  refine r_iconst 0 dX5_look_11 (by decide) ?_
  refine r_istore_n dX5_look_12 (Nat.le_of_ble_eq_true rfl) ?_
  refine loopUp (N := 12) (P := fun k => ∀ p : Int32, Q (some (.int (if p = -1 then fstG (fun q => likeB (ow j) (lk j) (tr q)) (12 - k) k else p))) ((mC th kd ow ag lk co sh hs tp hd rl ro rf ol ah tr od tk fo wi ou ge mo my ev se td fr to tn va im lo), r) → Rch (mX5_look, 3, 0, 0, oQ Q) 0 0 13 [some (.ref 0), some (.int (nI j)), some (.int p), some (.int (nI k))] [] ((mC th kd ow ag lk co sh hs tp hd rl ro rf ol ah tr od tk fo wi ou ge mo my ev se td fr to tn va im lo), r)) ?_ ?_ (fwF tr (ow j)) hQ
  · intro p hq
    have e : (if p = -1 then fstG (fun q => likeB (ow j) (lk j) (tr q)) (12 - 12) 12 else p) = p := by
      split
      · rename_i h; rw [h]; rfl
      · rfl
    rw [e] at hq
    refine r_iload_n dX5_look_13 rfl ?_
    refine r_bipush 12 dX5_look_14 (by decide) ?_
    refine r_icmp_ge 46 dX5_look_16 (by decide) (fun _ => ?_) (fun c_ => absurd (geT 12) c_)
    refine r_iload_n dX5_look_46 rfl ?_
    exact r_iret dX5_look_47 rfl (Nat.le_of_ble_eq_true rfl) (Nat.le_of_ble_eq_true rfl) (hq)
  · intro k hk ih p hq
    refine r_iload_n dX5_look_13 rfl ?_
    refine r_bipush 12 dX5_look_14 (by decide) ?_
    refine r_icmp_ge 46 dX5_look_16 (by decide) (fun c_ => absurd c_ (geF hk (by decide))) (fun _ => ?_)
    refine r_iload_n dX5_look_19 rfl ?_
    refine r_iconst (-1) dX5_look_20 (by decide) ?_
    refine r_icmp_ne 46 dX5_look_21 (by decide) (fun c_21 => ?_) (fun c_21 => ?_)
    · refine r_iload_n dX5_look_46 rfl ?_
      exact r_iret dX5_look_47 rfl (Nat.le_of_ble_eq_true rfl) (Nat.le_of_ble_eq_true rfl) (qi (by rw [if_neg c_21]) hq)
    · refine r_aload_n dX5_look_24 rfl ?_
      refine r_iload_n dX5_look_25 rfl ?_
      refine r_aload_n dX5_look_26 rfl ?_
      refine r_get bX5 24 (by decide) q1547 dX5_look_27 rfl rfl ?_
      refine r_iload_n dX5_look_30 rfl ?_
      refine r_ialdN dX5_look_31 rfl (by omega) (Nat.le_of_ble_eq_true rfl) ?_
      refine r_callV (as := [_, _]) okX5_doesLike bX5 rfl rfl q1702 dX5_look_32 (Nat.le_of_ble_eq_true rfl) rfl (Nat.le_of_ble_eq_true rfl) (Nat.le_of_ble_eq_true rfl) (Nat.le_of_ble_eq_true rfl) (pX5_doesLike hj ?_)
      refine r_if_eq 40 dX5_look_35 (by decide) (fun c_35 => ?_) (fun c_35 => ?_)
      · refine r_iincV dX5_look_40 rfl (Nat.le_of_ble_eq_true rfl) (incN _) ?_
        refine r_goto 13 dX5_look_43 (by decide) ?_
        exact ih p (qv (by rw [if_pos c_21, if_pos c_21, fstG_f (c := fun q => likeB (ow j) (lk j) (tr q)) hk (by rw [b2i_0.mp c_35]; decide)]) hq)
      · refine r_iload_n dX5_look_38 rfl ?_
        refine r_istore_n dX5_look_39 (Nat.le_of_ble_eq_true rfl) ?_
        refine r_iincV dX5_look_40 rfl (Nat.le_of_ble_eq_true rfl) (incN _) ?_
        refine r_goto 13 dX5_look_43 (by decide) ?_
        exact ih (nI k) (qv (by rw [if_neg (nI_m1 (by omega)), if_pos c_21, fstG_t (c := fun q => likeB (ow j) (lk j) (tr q)) hk (b2i_n.mp c_35)]) hq)
theorem pX5_lastLiked {j : Nat} (hj : j < 8) (hQ : Q (some (.int (laF (ow j) (lk j) tr))) ((mC th kd ow ag lk co sh hs tp hd rl ro rf ol ah tr od tk fo wi ou ge mo my ev se td fr to tn va im lo), r)) : AMet mX5_lastLiked 3 0 0 [.ref 0, .int (nI j)] ((mC th kd ow ag lk co sh hs tp hd rl ro rf ol ah tr od tk fo wi ou ge mo my ev se td fr to tn va im lo), r) Q := by
  refine AMet.ofRch rfl rfl (Nat.le_of_ble_eq_true rfl) ?_
  refine r_iconst (-1) dX5_lastLiked_0 (by decide) ?_
  refine r_istore_n dX5_lastLiked_1 (Nat.le_of_ble_eq_true rfl) ?_
  refine r_iconst 0 dX5_lastLiked_2 (by decide) ?_
  refine r_istore_n dX5_lastLiked_3 (Nat.le_of_ble_eq_true rfl) ?_
  refine loopUp (N := 12) (P := fun k => Rch (mX5_lastLiked, 3, 0, 0, oQ Q) 0 0 4 [some (.ref 0), some (.int (nI j)), some (.int (lstI (fun q => likeB (ow j) (lk j) (tr q)) k)), some (.int (nI k))] [] ((mC th kd ow ag lk co sh hs tp hd rl ro rf ol ah tr od tk fo wi ou ge mo my ev se td fr to tn va im lo), r)) ?_ ?_
  · refine r_iload_n dX5_lastLiked_4 rfl ?_
    refine r_bipush 12 dX5_lastLiked_5 (by decide) ?_
    refine r_icmp_ge 32 dX5_lastLiked_7 (by decide) (fun _ => ?_) (fun c_ => absurd (geT 12) c_)
    refine r_iload_n dX5_lastLiked_32 rfl ?_
    exact r_iret dX5_lastLiked_33 rfl (Nat.le_of_ble_eq_true rfl) (Nat.le_of_ble_eq_true rfl) (hQ)
  · intro k hk ih
    refine r_iload_n dX5_lastLiked_4 rfl ?_
    refine r_bipush 12 dX5_lastLiked_5 (by decide) ?_
    refine r_icmp_ge 32 dX5_lastLiked_7 (by decide) (fun c_ => absurd c_ (geF hk (by decide))) (fun _ => ?_)
    refine r_aload_n dX5_lastLiked_10 rfl ?_
    refine r_iload_n dX5_lastLiked_11 rfl ?_
    refine r_aload_n dX5_lastLiked_12 rfl ?_
    refine r_get bX5 24 (by decide) q1547 dX5_lastLiked_13 rfl rfl ?_
    refine r_iload_n dX5_lastLiked_16 rfl ?_
    refine r_ialdN dX5_lastLiked_17 rfl (by omega) (Nat.le_of_ble_eq_true rfl) ?_
    refine r_callV (as := [_, _]) okX5_doesLike bX5 rfl rfl q1702 dX5_lastLiked_18 (Nat.le_of_ble_eq_true rfl) rfl (Nat.le_of_ble_eq_true rfl) (Nat.le_of_ble_eq_true rfl) (Nat.le_of_ble_eq_true rfl) (pX5_doesLike hj ?_)
    refine r_if_eq 26 dX5_lastLiked_21 (by decide) (fun c_21 => ?_) (fun c_21 => ?_)
    · refine r_iincV dX5_lastLiked_26 rfl (Nat.le_of_ble_eq_true rfl) (incN _) ?_
      refine r_goto 4 dX5_lastLiked_29 (by decide) ?_
      first | rw [b2i_n] at c_21 | rw [b2i_0] at c_21
      simp only [lstI, c_21, if_true, if_false, Bool.false_eq_true] at ih
      exact ih
    · refine r_iload_n dX5_lastLiked_24 rfl ?_
      refine r_istore_n dX5_lastLiked_25 (Nat.le_of_ble_eq_true rfl) ?_
      refine r_iincV dX5_lastLiked_26 rfl (Nat.le_of_ble_eq_true rfl) (incN _) ?_
      refine r_goto 4 dX5_lastLiked_29 (by decide) ?_
      first | rw [b2i_n] at c_21 | rw [b2i_0] at c_21
      simp only [lstI, c_21, if_true, if_false, Bool.false_eq_true] at ih
      exact ih
theorem pX5_shyest {j : Nat} (hj : j < 8) (hQ : Q (some (.int (shF (ow j) (lk j) tr))) ((mC th kd ow ag lk co sh hs tp hd rl ro rf ol ah tr od tk fo wi ou ge mo my ev se td fr to tn va im lo), r)) : AMet mX5_shyest 3 0 0 [.ref 0, .int (nI j)] ((mC th kd ow ag lk co sh hs tp hd rl ro rf ol ah tr od tk fo wi ou ge mo my ev se td fr to tn va im lo), r) Q := by
  refine AMet.ofRch rfl rfl (Nat.le_of_ble_eq_true rfl) ?_
  refine r_iconst 0 dX5_shyest_0 (by decide) ?_
  refine r_istore_n dX5_shyest_1 (Nat.le_of_ble_eq_true rfl) ?_
  refine r_iconst (-1) dX5_shyest_2 (by decide) ?_
  refine r_istore_n dX5_shyest_3 (Nat.le_of_ble_eq_true rfl) ?_
  refine r_iconst 0 dX5_shyest_4 (by decide) ?_
  refine r_istore dX5_shyest_5 (Nat.le_of_ble_eq_true rfl) ?_
  refine loopUp (N := 8) (P := fun k => Rch (mX5_shyest, 3, 0, 0, oQ Q) 0 0 7 [some (.ref 0), some (.int (nI j)), some (.int (shI (ow j) (lk j) tr k).1), some (.int (shI (ow j) (lk j) tr k).2), some (.int (nI k))] [] ((mC th kd ow ag lk co sh hs tp hd rl ro rf ol ah tr od tk fo wi ou ge mo my ev se td fr to tn va im lo), r)) ?_ ?_
  · refine r_iload dX5_shyest_7 rfl ?_
    refine r_bipush 8 dX5_shyest_9 (by decide) ?_
    refine r_icmp_ge 57 dX5_shyest_11 (by decide) (fun _ => ?_) (fun c_ => absurd (geT 8) c_)
    refine r_iload_n dX5_shyest_57 rfl ?_
    exact r_iret dX5_shyest_58 rfl (Nat.le_of_ble_eq_true rfl) (Nat.le_of_ble_eq_true rfl) (hQ)
  · intro k hk ih
    refine r_iload dX5_shyest_7 rfl ?_
    refine r_bipush 8 dX5_shyest_9 (by decide) ?_
    refine r_icmp_ge 57 dX5_shyest_11 (by decide) (fun c_ => absurd c_ (geF hk (by decide))) (fun _ => ?_)
    refine r_aload_n dX5_shyest_14 rfl ?_
    refine r_iload_n dX5_shyest_15 rfl ?_
    refine r_iload dX5_shyest_16 rfl ?_
    refine r_callV (as := [_, _]) okX5_doesLike bX5 rfl rfl q1702 dX5_shyest_18 (Nat.le_of_ble_eq_true rfl) rfl (Nat.le_of_ble_eq_true rfl) (Nat.le_of_ble_eq_true rfl) (Nat.le_of_ble_eq_true rfl) (pX5_doesLike hj ?_)
    refine r_if_eq 51 dX5_shyest_21 (by decide) (fun c_21 => ?_) (fun c_21 => ?_)
    · refine r_iincV dX5_shyest_51 rfl (Nat.le_of_ble_eq_true rfl) (incN _) ?_
      refine r_goto 7 dX5_shyest_54 (by decide) ?_
      first | rw [b2i_n] at c_21 | rw [b2i_0] at c_21
      first | simp only [shI, c_21, Bool.false_eq_true, false_and, if_false] at ih | skip
      exact ih
    · refine r_aload_n dX5_shyest_24 rfl ?_
      refine r_iload dX5_shyest_25 rfl ?_
      refine r_callV (as := [_]) okX5_manyOf bX5 rfl rfl q1718 dX5_shyest_27 (Nat.le_of_ble_eq_true rfl) rfl (Nat.le_of_ble_eq_true rfl) (Nat.le_of_ble_eq_true rfl) (Nat.le_of_ble_eq_true rfl) (pX5_manyOf ?_)
      refine r_iload_n dX5_shyest_30 rfl ?_
      refine r_icmp_gt 37 dX5_shyest_31 (by decide) (fun c_31 => ?_) (fun c_31 => ?_)
      · refine r_aload_n dX5_shyest_37 rfl ?_
        refine r_iload dX5_shyest_38 rfl ?_
        refine r_callV (as := [_]) okX5_manyOf bX5 rfl rfl q1718 dX5_shyest_40 (Nat.le_of_ble_eq_true rfl) rfl (Nat.le_of_ble_eq_true rfl) (Nat.le_of_ble_eq_true rfl) (Nat.le_of_ble_eq_true rfl) (pX5_manyOf ?_)
        refine r_istore_n dX5_shyest_43 (Nat.le_of_ble_eq_true rfl) ?_
        refine r_aload_n dX5_shyest_44 rfl ?_
        refine r_iload dX5_shyest_45 rfl ?_
        refine r_callV (as := [_]) okX5_firstWith bX5 rfl rfl q1710 dX5_shyest_47 (Nat.le_of_ble_eq_true rfl) rfl (Nat.le_of_ble_eq_true rfl) (Nat.le_of_ble_eq_true rfl) (Nat.le_of_ble_eq_true rfl) (pX5_firstWith ?_)
        refine r_istore_n dX5_shyest_50 (Nat.le_of_ble_eq_true rfl) ?_
        refine r_iincV dX5_shyest_51 rfl (Nat.le_of_ble_eq_true rfl) (incN _) ?_
        refine r_goto 7 dX5_shyest_54 (by decide) ?_
        first | rw [b2i_n] at c_21 | rw [b2i_0] at c_21
        first | (rw [shI, if_pos ⟨c_21, c_31⟩] at ih; exact ih) | (rw [shI, if_neg (fun z => c_31 z.2)] at ih; exact ih)
      · refine r_goto 51 dX5_shyest_34 (by decide) ?_
        refine r_iincV dX5_shyest_51 rfl (Nat.le_of_ble_eq_true rfl) (incN _) ?_
        refine r_goto 7 dX5_shyest_54 (by decide) ?_
        first | rw [b2i_n] at c_21 | rw [b2i_0] at c_21
        first | (rw [shI, if_pos ⟨c_21, c_31⟩] at ih; exact ih) | (rw [shI, if_neg (fun z => c_31 z.2)] at ih; exact ih)
theorem ev_eta (E : EV) : (E.1, E.2.1, E.2.2) = E := rfl
theorem pX5_goesL {j : Nat} (hj : j < 8) (ha : ow j ≠ -1) : ∀ (n : Nat) (tr tk fo : Nat → Int32) (p : Int32), cntI (fun p => tr p == ow j) 12 ≤ n → Q none ((mC th kd ow ag lk co sh hs tp hd rl ro rf ol ah ((grF (ow j) n (tr, tk j, fo j)).1) od (upd tk j (grF (ow j) n (tr, tk j, fo j)).2.1) (upd fo j (grF (ow j) n (tr, tk j, fo j)).2.2) wi ou ge mo my ev se td fr to tn va im lo), r) → Rch (mX5_lookerGoes, 4, 0, 0, oQ Q) 0 0 88 [some (.ref 0), some (.int (nI j)), some (.int p)] [] ((mC th kd ow ag lk co sh hs tp hd rl ro rf ol ah tr od tk fo wi ou ge mo my ev se td fr to tn va im lo), r) := by
  intro n
  induction n with
  | zero =>
    intro tr tk fo p hc hQ
    have hf : fwF tr (ow j) = -1 := fw_none (by omega)
    refine r_aload_n dX5_lookerGoes_88 rfl ?_
    refine r_aload_n dX5_lookerGoes_89 rfl ?_
    refine r_get bX5 3 (by decide) q1526 dX5_lookerGoes_90 rfl rfl ?_
    refine r_iload_n dX5_lookerGoes_93 rfl ?_
    refine r_ialdN dX5_lookerGoes_94 rfl (by omega) (Nat.le_of_ble_eq_true rfl) ?_
    refine r_callV (as := [_]) okX5_firstWith bX5 rfl rfl q1710 dX5_lookerGoes_95 (Nat.le_of_ble_eq_true rfl) rfl (Nat.le_of_ble_eq_true rfl) (Nat.le_of_ble_eq_true rfl) (Nat.le_of_ble_eq_true rfl) (pX5_firstWith ?_)
    refine r_iconst (-1) dX5_lookerGoes_98 (by decide) ?_
    refine r_icmp_eq 120 dX5_lookerGoes_99 (by decide) (fun _ => ?_) (fun c_ => absurd (hf) c_)
    exact r_vret dX5_lookerGoes_120 rfl (Nat.le_of_ble_eq_true rfl) (Nat.le_of_ble_eq_true rfl) (by simp only [grF, upd_id] at hQ; exact hQ)
  | succ n ih =>
    intro tr tk fo p hc hQ
    refine r_aload_n dX5_lookerGoes_88 rfl ?_
    refine r_aload_n dX5_lookerGoes_89 rfl ?_
    refine r_get bX5 3 (by decide) q1526 dX5_lookerGoes_90 rfl rfl ?_
    refine r_iload_n dX5_lookerGoes_93 rfl ?_
    refine r_ialdN dX5_lookerGoes_94 rfl (by omega) (Nat.le_of_ble_eq_true rfl) ?_
    refine r_callV (as := [_]) okX5_firstWith bX5 rfl rfl q1710 dX5_lookerGoes_95 (Nat.le_of_ble_eq_true rfl) rfl (Nat.le_of_ble_eq_true rfl) (Nat.le_of_ble_eq_true rfl) (Nat.le_of_ble_eq_true rfl) (pX5_firstWith ?_)
    refine r_iconst (-1) dX5_lookerGoes_98 (by decide) ?_
    refine r_icmp_eq 120 dX5_lookerGoes_99 (by decide) (fun c_99 => ?_) (fun c_99 => ?_)
    · have e : fwF tr (ow j) = -1 := c_99
      simp only [grF, e, if_true, upd_id] at hQ
      exact r_vret dX5_lookerGoes_120 rfl (Nat.le_of_ble_eq_true rfl) (Nat.le_of_ble_eq_true rfl) hQ
    · refine r_aload_n dX5_lookerGoes_102 rfl ?_
      refine r_iload_n dX5_lookerGoes_103 rfl ?_
      refine r_aload_n dX5_lookerGoes_104 rfl ?_
      refine r_aload_n dX5_lookerGoes_105 rfl ?_
      refine r_get bX5 3 (by decide) q1526 dX5_lookerGoes_106 rfl rfl ?_
      refine r_iload_n dX5_lookerGoes_109 rfl ?_
      refine r_ialdN dX5_lookerGoes_110 rfl (by omega) (Nat.le_of_ble_eq_true rfl) ?_
      refine r_callV (as := [_]) okX5_firstWith bX5 rfl rfl q1710 dX5_lookerGoes_111 (Nat.le_of_ble_eq_true rfl) rfl (Nat.le_of_ble_eq_true rfl) (Nat.le_of_ble_eq_true rfl) (Nat.le_of_ble_eq_true rfl) (pX5_firstWith ?_)
      refine r_callV (as := [_, _]) okX5_takes bX5 rfl rfl q1706 dX5_lookerGoes_114 (Nat.le_of_ble_eq_true rfl) rfl (Nat.le_of_ble_eq_true rfl) (Nat.le_of_ble_eq_true rfl) (Nat.le_of_ble_eq_true rfl) (pX5_takes hj (by first | exact lo_PlN _ _ _ | exact la_PlN _ _ _ | exact sh_PlN _ _ _ 8 | exact fw_PlN _ _) ?_)
      refine r_goto 88 dX5_lookerGoes_117 (by decide) ?_
      refine ih _ _ _ p ?_ ?_
      · obtain ⟨q, hq, e1, e2⟩ := fw_drop ha (P := tr) c_99
        have e3 : (tkF (fstI (fun p => tr p == ow j) 12) (tr, tk j, fo j)).1 = upd tr q (-1) := by
          have e4 : fstI (fun p => tr p == ow j) 12 = nI q := e1
          simp only [tkF, e4, nI_m1 (show q < 2 ^ 31 by omega), if_false, nI_clamp (show q < 2 ^ 31 by omega)]
        rw [e3]
        omega
      · have e5 : ¬ fwF tr (ow j) = -1 := c_99
        simp only [pk_us, upd_upd, ev_eta]
        rw [grF, if_neg e5] at hQ
        exact hQ
theorem pX5_lookerGoes {j kk : Nat} (hj : j < 8) (hk : kd j = nI kk) (hkk : kk < 6) (ha : ow j ≠ -1) (hQ : Q none ((mC th kd ow ag lk co sh hs tp hd rl ro rf ol ah ((goF kk (ow j) (lk j) (tr, tk j, fo j)).1) od (upd tk j (goF kk (ow j) (lk j) (tr, tk j, fo j)).2.1) (upd fo j (goF kk (ow j) (lk j) (tr, tk j, fo j)).2.2) wi ou ge mo my ev se td fr to tn va im lo), r)) : AMet mX5_lookerGoes 4 0 0 [.ref 0, .int (nI j)] ((mC th kd ow ag lk co sh hs tp hd rl ro rf ol ah tr od tk fo wi ou ge mo my ev se td fr to tn va im lo), r) Q := by
  refine AMet.ofRch rfl rfl (Nat.le_of_ble_eq_true rfl) ?_
  refine r_aload_n dX5_lookerGoes_0 rfl ?_
  refine r_iload_n dX5_lookerGoes_1 rfl ?_
  refine r_callV (as := [_]) okX5_lastLiked bX5 rfl rfl q1698 dX5_lookerGoes_2 (Nat.le_of_ble_eq_true rfl) rfl (Nat.le_of_ble_eq_true rfl) (Nat.le_of_ble_eq_true rfl) (Nat.le_of_ble_eq_true rfl) (pX5_lastLiked hj ?_)
  refine r_istore_n dX5_lookerGoes_5 (Nat.le_of_ble_eq_true rfl) ?_
  refine r_aload_n dX5_lookerGoes_6 rfl ?_
  refine r_get bX5 2 (by decide) q1525 dX5_lookerGoes_7 rfl rfl ?_
  refine r_iload_n dX5_lookerGoes_10 rfl ?_
  refine r_ialdN dX5_lookerGoes_11 rfl (by omega) (Nat.le_of_ble_eq_true rfl) ?_
  rw [hk]
  rcases (show kk = 0 ∨ kk = 1 ∨ kk = 2 ∨ kk = 3 ∨ kk = 4 ∨ kk = 5 by omega) with rfl | rfl | rfl | rfl | rfl | rfl
  · simp only [goF] at hQ
    refine r_tableOut 158 dX5_lookerGoes_12 (by decide) (by decide) ?_
    refine r_aload_n dX5_lookerGoes_158 rfl ?_
    refine r_iload_n dX5_lookerGoes_159 rfl ?_
    refine r_aload_n dX5_lookerGoes_160 rfl ?_
    refine r_iload_n dX5_lookerGoes_161 rfl ?_
    refine r_callV (as := [_]) okX5_look bX5 rfl rfl q1714 dX5_lookerGoes_162 (Nat.le_of_ble_eq_true rfl) rfl (Nat.le_of_ble_eq_true rfl) (Nat.le_of_ble_eq_true rfl) (Nat.le_of_ble_eq_true rfl) (pX5_look hj ?_)
    refine r_callV (as := [_, _]) okX5_takes bX5 rfl rfl q1706 dX5_lookerGoes_165 (Nat.le_of_ble_eq_true rfl) rfl (Nat.le_of_ble_eq_true rfl) (Nat.le_of_ble_eq_true rfl) (Nat.le_of_ble_eq_true rfl) (pX5_takes hj (by first | exact lo_PlN _ _ _ | exact la_PlN _ _ _ | exact sh_PlN _ _ _ 8 | exact fw_PlN _ _) ?_)
    refine r_aload_n dX5_lookerGoes_168 rfl ?_
    refine r_get bX5 2 (by decide) q1525 dX5_lookerGoes_169 rfl rfl ?_
    refine r_iload_n dX5_lookerGoes_172 rfl ?_
    refine r_ialdN dX5_lookerGoes_173 rfl (by omega) (Nat.le_of_ble_eq_true rfl) ?_
    refine r_iconst 1 dX5_lookerGoes_174 (by decide) ?_
    rw [hk]
    refine r_icmp_ne 188 dX5_lookerGoes_175 (by decide) (fun _ => ?_) (fun c_ => absurd c_ (by decide))
    exact r_vret dX5_lookerGoes_188 rfl (Nat.le_of_ble_eq_true rfl) (Nat.le_of_ble_eq_true rfl) (hQ)
  · simp only [goF] at hQ
    refine r_tableOut 158 dX5_lookerGoes_12 (by decide) (by decide) ?_
    refine r_aload_n dX5_lookerGoes_158 rfl ?_
    refine r_iload_n dX5_lookerGoes_159 rfl ?_
    refine r_aload_n dX5_lookerGoes_160 rfl ?_
    refine r_iload_n dX5_lookerGoes_161 rfl ?_
    refine r_callV (as := [_]) okX5_look bX5 rfl rfl q1714 dX5_lookerGoes_162 (Nat.le_of_ble_eq_true rfl) rfl (Nat.le_of_ble_eq_true rfl) (Nat.le_of_ble_eq_true rfl) (Nat.le_of_ble_eq_true rfl) (pX5_look hj ?_)
    refine r_callV (as := [_, _]) okX5_takes bX5 rfl rfl q1706 dX5_lookerGoes_165 (Nat.le_of_ble_eq_true rfl) rfl (Nat.le_of_ble_eq_true rfl) (Nat.le_of_ble_eq_true rfl) (Nat.le_of_ble_eq_true rfl) (pX5_takes hj (by first | exact lo_PlN _ _ _ | exact la_PlN _ _ _ | exact sh_PlN _ _ _ 8 | exact fw_PlN _ _) ?_)
    refine r_aload_n dX5_lookerGoes_168 rfl ?_
    refine r_get bX5 2 (by decide) q1525 dX5_lookerGoes_169 rfl rfl ?_
    refine r_iload_n dX5_lookerGoes_172 rfl ?_
    refine r_ialdN dX5_lookerGoes_173 rfl (by omega) (Nat.le_of_ble_eq_true rfl) ?_
    refine r_iconst 1 dX5_lookerGoes_174 (by decide) ?_
    rw [hk]
    refine r_icmp_ne 188 dX5_lookerGoes_175 (by decide) (fun c_ => absurd (by decide) c_) (fun _ => ?_)
    refine r_aload_n dX5_lookerGoes_178 rfl ?_
    refine r_iload_n dX5_lookerGoes_179 rfl ?_
    refine r_aload_n dX5_lookerGoes_180 rfl ?_
    refine r_iload_n dX5_lookerGoes_181 rfl ?_
    refine r_callV (as := [_]) okX5_look bX5 rfl rfl q1714 dX5_lookerGoes_182 (Nat.le_of_ble_eq_true rfl) rfl (Nat.le_of_ble_eq_true rfl) (Nat.le_of_ble_eq_true rfl) (Nat.le_of_ble_eq_true rfl) (pX5_look hj ?_)
    refine r_callV (as := [_, _]) okX5_takes bX5 rfl rfl q1706 dX5_lookerGoes_185 (Nat.le_of_ble_eq_true rfl) rfl (Nat.le_of_ble_eq_true rfl) (Nat.le_of_ble_eq_true rfl) (Nat.le_of_ble_eq_true rfl) (pX5_takes hj (by first | exact lo_PlN _ _ _ | exact la_PlN _ _ _ | exact sh_PlN _ _ _ 8 | exact fw_PlN _ _) ?_)
    exact r_vret dX5_lookerGoes_188 rfl (Nat.le_of_ble_eq_true rfl) (Nat.le_of_ble_eq_true rfl) (by simp only [pk_us, upd_upd, ev_eta]; exact hQ)
  · simp only [goF] at hQ
    refine r_tableIn 44 dX5_lookerGoes_12 (by decide) (by decide) rfl (by decide) ?_
    refine r_aload_n dX5_lookerGoes_44 rfl ?_
    refine r_iload_n dX5_lookerGoes_45 rfl ?_
    refine r_iload_n dX5_lookerGoes_46 rfl ?_
    refine r_callV (as := [_, _]) okX5_takes bX5 rfl rfl q1706 dX5_lookerGoes_47 (Nat.le_of_ble_eq_true rfl) rfl (Nat.le_of_ble_eq_true rfl) (Nat.le_of_ble_eq_true rfl) (Nat.le_of_ble_eq_true rfl) (pX5_takes hj (by first | exact lo_PlN _ _ _ | exact la_PlN _ _ _ | exact sh_PlN _ _ _ 8 | exact fw_PlN _ _) ?_)
    exact r_vret dX5_lookerGoes_50 rfl (Nat.le_of_ble_eq_true rfl) (Nat.le_of_ble_eq_true rfl) (hQ)
  · refine r_tableIn 51 dX5_lookerGoes_12 (by decide) (by decide) rfl (by decide) ?_
    refine r_aload_n dX5_lookerGoes_51 rfl ?_
    refine r_aload_n dX5_lookerGoes_52 rfl ?_
    refine r_get bX5 3 (by decide) q1526 dX5_lookerGoes_53 rfl rfl ?_
    refine r_iload_n dX5_lookerGoes_56 rfl ?_
    refine r_ialdN dX5_lookerGoes_57 rfl (by omega) (Nat.le_of_ble_eq_true rfl) ?_
    refine r_callV (as := [_]) okX5_firstWith bX5 rfl rfl q1710 dX5_lookerGoes_58 (Nat.le_of_ble_eq_true rfl) rfl (Nat.le_of_ble_eq_true rfl) (Nat.le_of_ble_eq_true rfl) (Nat.le_of_ble_eq_true rfl) (pX5_firstWith ?_)
    refine r_iconst (-1) dX5_lookerGoes_61 (by decide) ?_
    refine r_icmp_ne 88 dX5_lookerGoes_62 (by decide) (fun c_62 => ?_) (fun c_62 => ?_)
    · have e : ¬ fwF tr (ow j) = -1 := c_62
      simp only [goF, e, if_false] at hQ
      exact pX5_goesL hj ha 12 tr tk fo _ (cntI_le _ 12) hQ
    · refine r_aload_n dX5_lookerGoes_65 rfl ?_
      refine r_iload_n dX5_lookerGoes_66 rfl ?_
      refine r_aload_n dX5_lookerGoes_67 rfl ?_
      refine r_iload_n dX5_lookerGoes_68 rfl ?_
      refine r_callV (as := [_]) okX5_look bX5 rfl rfl q1714 dX5_lookerGoes_69 (Nat.le_of_ble_eq_true rfl) rfl (Nat.le_of_ble_eq_true rfl) (Nat.le_of_ble_eq_true rfl) (Nat.le_of_ble_eq_true rfl) (pX5_look hj ?_)
      refine r_callV (as := [_, _]) okX5_takes bX5 rfl rfl q1706 dX5_lookerGoes_72 (Nat.le_of_ble_eq_true rfl) rfl (Nat.le_of_ble_eq_true rfl) (Nat.le_of_ble_eq_true rfl) (Nat.le_of_ble_eq_true rfl) (pX5_takes hj (by first | exact lo_PlN _ _ _ | exact la_PlN _ _ _ | exact sh_PlN _ _ _ 8 | exact fw_PlN _ _) ?_)
      refine r_aload_n dX5_lookerGoes_75 rfl ?_
      refine r_iload_n dX5_lookerGoes_76 rfl ?_
      refine r_aload_n dX5_lookerGoes_77 rfl ?_
      refine r_iload_n dX5_lookerGoes_78 rfl ?_
      refine r_callV (as := [_]) okX5_look bX5 rfl rfl q1714 dX5_lookerGoes_79 (Nat.le_of_ble_eq_true rfl) rfl (Nat.le_of_ble_eq_true rfl) (Nat.le_of_ble_eq_true rfl) (Nat.le_of_ble_eq_true rfl) (pX5_look hj ?_)
      refine r_callV (as := [_, _]) okX5_takes bX5 rfl rfl q1706 dX5_lookerGoes_82 (Nat.le_of_ble_eq_true rfl) rfl (Nat.le_of_ble_eq_true rfl) (Nat.le_of_ble_eq_true rfl) (Nat.le_of_ble_eq_true rfl) (pX5_takes hj (by first | exact lo_PlN _ _ _ | exact la_PlN _ _ _ | exact sh_PlN _ _ _ 8 | exact fw_PlN _ _) ?_)
      refine r_goto 120 dX5_lookerGoes_85 (by decide) ?_
      exact r_vret dX5_lookerGoes_120 rfl (Nat.le_of_ble_eq_true rfl) (Nat.le_of_ble_eq_true rfl) (by have e : fwF tr (ow j) = -1 := c_62; simp only [goF, e, if_true] at hQ; simp only [pk_us, upd_upd, ev_eta]; exact hQ)
  · rcases la_PlN (ow j) (lk j) tr with e | ⟨q, hq, e⟩
    · simp only [goF, e, if_true, upd_id] at hQ
      rw [e]
      refine r_tableIn 121 dX5_lookerGoes_12 (by decide) (by decide) rfl (by decide) ?_
      refine r_iload_n dX5_lookerGoes_121 rfl ?_
      refine r_iconst (-1) dX5_lookerGoes_122 (by decide) ?_
      refine r_icmp_eq 146 dX5_lookerGoes_123 (by decide) (fun _ => ?_) (fun c_ => absurd (rfl) c_)
      exact r_vret dX5_lookerGoes_146 rfl (Nat.le_of_ble_eq_true rfl) (Nat.le_of_ble_eq_true rfl) (hQ)
    · have e2 := nI_m1 (show q < 2 ^ 31 by omega)
      simp only [goF, e, e2, if_false, nI_clamp (show q < 2 ^ 31 by omega)] at hQ
      rw [e]
      refine r_tableIn 121 dX5_lookerGoes_12 (by decide) (by decide) rfl (by decide) ?_
      refine r_iload_n dX5_lookerGoes_121 rfl ?_
      refine r_iconst (-1) dX5_lookerGoes_122 (by decide) ?_
      refine r_icmp_eq 146 dX5_lookerGoes_123 (by decide) (fun c_ => absurd c_ (e2)) (fun _ => ?_)
      refine r_aload_n dX5_lookerGoes_126 rfl ?_
      refine r_aload_n dX5_lookerGoes_127 rfl ?_
      refine r_get bX5 24 (by decide) q1547 dX5_lookerGoes_128 rfl rfl ?_
      refine r_iload_n dX5_lookerGoes_131 rfl ?_
      refine r_ialdN dX5_lookerGoes_132 rfl (by omega) (Nat.le_of_ble_eq_true rfl) ?_
      refine r_callV (as := [_]) okX5_manyOf bX5 rfl rfl q1718 dX5_lookerGoes_133 (Nat.le_of_ble_eq_true rfl) rfl (Nat.le_of_ble_eq_true rfl) (Nat.le_of_ble_eq_true rfl) (Nat.le_of_ble_eq_true rfl) (pX5_manyOf ?_)
      refine r_iconst 1 dX5_lookerGoes_136 (by decide) ?_
      refine r_icmp_le 146 dX5_lookerGoes_137 (by decide) (fun c_137 => ?_) (fun c_137 => ?_)
      · exact r_vret dX5_lookerGoes_146 rfl (Nat.le_of_ble_eq_true rfl) (Nat.le_of_ble_eq_true rfl) (by by_cases c5 : 1 < cnF tr (tr q) <;> first | (rw [if_pos c5] at hQ; exact hQ) | (rw [if_neg c5] at hQ; simp only [upd_id] at hQ; exact hQ) | exact absurd (show cnF tr (tr q) ≤ 1 from c_137) (Int32.not_le.mpr c5) | exact absurd (Int32.not_le.mp c_137) c5)
      · refine r_aload_n dX5_lookerGoes_140 rfl ?_
        refine r_iload_n dX5_lookerGoes_141 rfl ?_
        refine r_iload_n dX5_lookerGoes_142 rfl ?_
        refine r_callV (as := [_, _]) okX5_takes bX5 rfl rfl q1706 dX5_lookerGoes_143 (Nat.le_of_ble_eq_true rfl) rfl (Nat.le_of_ble_eq_true rfl) (Nat.le_of_ble_eq_true rfl) (Nat.le_of_ble_eq_true rfl) (pX5_takes hj (Or.inr ⟨q, hq, rfl⟩) ?_)
        exact r_vret dX5_lookerGoes_146 rfl (Nat.le_of_ble_eq_true rfl) (Nat.le_of_ble_eq_true rfl) (by by_cases c5 : 1 < cnF tr (tr q) <;> first | (rw [if_pos c5] at hQ; exact hQ) | (rw [if_neg c5] at hQ; simp only [upd_id] at hQ; exact hQ) | exact absurd (show cnF tr (tr q) ≤ 1 from c_137) (Int32.not_le.mpr c5) | exact absurd (Int32.not_le.mp c_137) c5)
  · simp only [goF] at hQ
    refine r_tableIn 147 dX5_lookerGoes_12 (by decide) (by decide) rfl (by decide) ?_
    refine r_aload_n dX5_lookerGoes_147 rfl ?_
    refine r_iload_n dX5_lookerGoes_148 rfl ?_
    refine r_aload_n dX5_lookerGoes_149 rfl ?_
    refine r_iload_n dX5_lookerGoes_150 rfl ?_
    refine r_callV (as := [_]) okX5_shyest bX5 rfl rfl q1722 dX5_lookerGoes_151 (Nat.le_of_ble_eq_true rfl) rfl (Nat.le_of_ble_eq_true rfl) (Nat.le_of_ble_eq_true rfl) (Nat.le_of_ble_eq_true rfl) (pX5_shyest hj ?_)
    refine r_callV (as := [_, _]) okX5_takes bX5 rfl rfl q1706 dX5_lookerGoes_154 (Nat.le_of_ble_eq_true rfl) rfl (Nat.le_of_ble_eq_true rfl) (Nat.le_of_ble_eq_true rfl) (Nat.le_of_ble_eq_true rfl) (pX5_takes hj (by first | exact lo_PlN _ _ _ | exact la_PlN _ _ _ | exact sh_PlN _ _ _ 8 | exact fw_PlN _ _) ?_)
    exact r_vret dX5_lookerGoes_157 rfl (Nat.le_of_ble_eq_true rfl) (Nat.le_of_ble_eq_true rfl) (hQ)
end MM
