set_option maxRecDepth 100000
/-! the reference: its cells, small methods, an evening -/
def mC (th kd ow ag lk co sh hs tp hd rl : Nat → Int32) (ro : Nat → Int64) (rf ol ah tr od tk fo wi ou ge mo : Nat → Int32) (my ev se td fr to tn va im lo : Int32) : List AC :=
  [.inr (5, [.ref 8, .int my, .ref 16, .ref 24, .ref 32, .ref 40, .ref 48, .ref 56, .ref 64, .int ev, .int se, .int td, .ref 72, .int fr, .int to, .int tn, .int va, .ref 80, .ref 88, .ref 96, .ref 104, .int im, .ref 112, .ref 120, .ref 128, .int lo, .ref 136, .ref 144, .ref 152, .ref 160, .ref 168, .ref 176, .ref 184]),
   .inl (.int, 12, .inl th), .inl (.int, 8, .inl kd), .inl (.int, 8, .inl ow), .inl (.int, 8, .inl ag), .inl (.int, 8, .inl lk), .inl (.int, 8, .inl co), .inl (.int, 8, .inl sh), .inl (.int, 64, .inl hs), .inl (.int, 250, .inl tp), .inl (.int, 8, .inl hd), .inl (.int, 8, .inl rl), .inl (.long, 320, .inr (.inl ro)), .inl (.int, 7, .inl rf), .inl (.int, 127, .inl ol), .inl (.int, 127, .inl ah), .inl (.int, 12, .inl tr), .inl (.int, 8, .inl od), .inl (.int, 8, .inl tk), .inl (.int, 8, .inl fo), .inl (.int, 8, .inl wi), .inl (.boolean, 8, .inl ou), .inl (.int, 8, .inl ge), .inl (.int, 3, .inl mo)]
section MM
variable {th kd ow ag lk co sh hs tp hd rl : Nat → Int32} {ro : Nat → Int64} {rf ol ah tr od tk fo wi ou ge mo : Nat → Int32} {my ev se td fr to tn va im lo : Int32} {r : List AC × List AC × List AC} {Q : Option Value → AHp → Prop}
theorem pX5_no {c : Int32} (k : Nat) (hk : k < 7) (he : -c = nI k) (hQ : Q (some (.int c)) ((mC th kd ow ag lk co sh hs tp hd rl ro (upd rf k (rf k + 1)) ol ah tr od tk fo wi ou ge mo my ev se td fr to tn va im lo), r)) : AMet mX5_no 1 0 0 [.ref 0, .int c] ((mC th kd ow ag lk co sh hs tp hd rl ro rf ol ah tr od tk fo wi ou ge mo my ev se td fr to tn va im lo), r) Q := by
  refine AMet.ofRch rfl rfl (Nat.le_of_ble_eq_true rfl) ?_
  refine r_aload_n dX5_no_0 rfl ?_
  refine r_get bX5 20 (by decide) q1543 dX5_no_1 rfl rfl ?_
  refine r_iload_n dX5_no_4 rfl ?_
  refine r_ineg dX5_no_5 ?_
  rw [he]
  refine r_dup2 dX5_no_6 rfl rfl ?_
  refine r_ialdN dX5_no_7 rfl (by omega) (Nat.le_of_ble_eq_true rfl) ?_
  refine r_iconst 1 dX5_no_8 (by decide) ?_
  refine r_iadd dX5_no_9 ?_
  refine r_iastN dX5_no_10 rfl (by omega) (Nat.le_of_ble_eq_true rfl) ?_
  refine r_iload_n dX5_no_11 rfl ?_
  exact r_iret dX5_no_12 rfl (Nat.le_of_ble_eq_true rfl) (Nat.le_of_ble_eq_true rfl) (hQ)
theorem pX5_isPlace {h : AHp} {p : Int32} (hQ : Q (some (.int (b2i (inB p 0 11)))) h) : AMet mX5_isPlace 2 0 0 [.int p] h Q := by
  refine AMet.ofRch rfl rfl (Nat.le_of_ble_eq_true rfl) ?_
  refine r_iload_n dX5_isPlace_0 rfl ?_
  refine r_iconst 0 dX5_isPlace_1 (by decide) ?_
  refine r_bipush 11 dX5_isPlace_2 (by decide) ?_
  refine r_callS (as := [_, _, _]) okX5_within q1630 dX5_isPlace_4 (Nat.le_of_ble_eq_true rfl) rfl (Nat.le_of_ble_eq_true rfl) (Nat.le_of_ble_eq_true rfl) (Nat.le_of_ble_eq_true rfl) (pX5_within ?_)
  exact r_zret (ty := .boolean) dX5_isPlace_7 rfl (b2i_nar _) (Nat.le_of_ble_eq_true rfl) (Nat.le_of_ble_eq_true rfl) (hQ)
theorem pX5_isSort {h : AHp} {p : Int32} (hQ : Q (some (.int (b2i (inB p 0 7)))) h) : AMet mX5_isSort 2 0 0 [.int p] h Q := by
  refine AMet.ofRch rfl rfl (Nat.le_of_ble_eq_true rfl) ?_
  refine r_iload_n dX5_isSort_0 rfl ?_
  refine r_iconst 0 dX5_isSort_1 (by decide) ?_
  refine r_bipush 7 dX5_isSort_2 (by decide) ?_
  refine r_callS (as := [_, _, _]) okX5_within q1630 dX5_isSort_4 (Nat.le_of_ble_eq_true rfl) rfl (Nat.le_of_ble_eq_true rfl) (Nat.le_of_ble_eq_true rfl) (Nat.le_of_ble_eq_true rfl) (pX5_within ?_)
  exact r_zret (ty := .boolean) dX5_isSort_7 rfl (b2i_nar _) (Nat.le_of_ble_eq_true rfl) (Nat.le_of_ble_eq_true rfl) (hQ)
theorem pX5_isShelf {h : AHp} {p : Int32} (hQ : Q (some (.int (b2i (inB p 0 7)))) h) : AMet mX5_isShelf 2 0 0 [.int p] h Q := by
  refine AMet.ofRch rfl rfl (Nat.le_of_ble_eq_true rfl) ?_
  refine r_iload_n dX5_isShelf_0 rfl ?_
  refine r_iconst 0 dX5_isShelf_1 (by decide) ?_
  refine r_bipush 7 dX5_isShelf_2 (by decide) ?_
  refine r_callS (as := [_, _, _]) okX5_within q1630 dX5_isShelf_4 (Nat.le_of_ble_eq_true rfl) rfl (Nat.le_of_ble_eq_true rfl) (Nat.le_of_ble_eq_true rfl) (Nat.le_of_ble_eq_true rfl) (pX5_within ?_)
  exact r_zret (ty := .boolean) dX5_isShelf_7 rfl (b2i_nar _) (Nat.le_of_ble_eq_true rfl) (Nat.le_of_ble_eq_true rfl) (hQ)
theorem pX5_arePlaces {h : AHp} {p : Int32} (hQ : Q (some (.int (b2i (inB p 0 4095)))) h) : AMet mX5_arePlaces 2 0 0 [.int p] h Q := by
  refine AMet.ofRch rfl rfl (Nat.le_of_ble_eq_true rfl) ?_
  refine r_iload_n dX5_arePlaces_0 rfl ?_
  refine r_iconst 0 dX5_arePlaces_1 (by decide) ?_
  refine r_sipush 4095 dX5_arePlaces_2 (by decide) ?_
  refine r_callS (as := [_, _, _]) okX5_within q1630 dX5_arePlaces_5 (Nat.le_of_ble_eq_true rfl) rfl (Nat.le_of_ble_eq_true rfl) (Nat.le_of_ble_eq_true rfl) (Nat.le_of_ble_eq_true rfl) (pX5_within ?_)
  exact r_zret (ty := .boolean) dX5_arePlaces_8 rfl (b2i_nar _) (Nat.le_of_ble_eq_true rfl) (Nat.le_of_ble_eq_true rfl) (hQ)
theorem pX5_isLooker {p : Int32} (hQ : Q (some (.int (b2i (inB p 0 (my - 1))))) ((mC th kd ow ag lk co sh hs tp hd rl ro rf ol ah tr od tk fo wi ou ge mo my ev se td fr to tn va im lo), r)) : AMet mX5_isLooker 2 0 0 [.ref 0, .int p] ((mC th kd ow ag lk co sh hs tp hd rl ro rf ol ah tr od tk fo wi ou ge mo my ev se td fr to tn va im lo), r) Q := by
  refine AMet.ofRch rfl rfl (Nat.le_of_ble_eq_true rfl) ?_
  refine r_iload_n dX5_isLooker_0 rfl ?_
  refine r_iconst 0 dX5_isLooker_1 (by decide) ?_
  refine r_aload_n dX5_isLooker_2 rfl ?_
  refine r_get bX5 1 (by decide) q1524 dX5_isLooker_3 rfl rfl ?_
  refine r_iconst 1 dX5_isLooker_6 (by decide) ?_
  refine r_isub dX5_isLooker_7 ?_
  refine r_callS (as := [_, _, _]) okX5_within q1630 dX5_isLooker_8 (Nat.le_of_ble_eq_true rfl) rfl (Nat.le_of_ble_eq_true rfl) (Nat.le_of_ble_eq_true rfl) (Nat.le_of_ble_eq_true rfl) (pX5_within ?_)
  exact r_zret (ty := .boolean) dX5_isLooker_11 rfl (b2i_nar _) (Nat.le_of_ble_eq_true rfl) (Nat.le_of_ble_eq_true rfl) (hQ)
theorem pX5_isSet {p : Int32} (hQ : Q (some (.int (b2i (inB p 0 (1 <<< (my &&& 31) - 1))))) ((mC th kd ow ag lk co sh hs tp hd rl ro rf ol ah tr od tk fo wi ou ge mo my ev se td fr to tn va im lo), r)) : AMet mX5_isSet 2 0 0 [.ref 0, .int p] ((mC th kd ow ag lk co sh hs tp hd rl ro rf ol ah tr od tk fo wi ou ge mo my ev se td fr to tn va im lo), r) Q := by
  refine AMet.ofRch rfl rfl (Nat.le_of_ble_eq_true rfl) ?_
  refine r_iload_n dX5_isSet_0 rfl ?_
  refine r_iconst 0 dX5_isSet_1 (by decide) ?_
  refine r_iconst 1 dX5_isSet_2 (by decide) ?_
  refine r_aload_n dX5_isSet_3 rfl ?_
  refine r_get bX5 1 (by decide) q1524 dX5_isSet_4 rfl rfl ?_
  refine r_ishl dX5_isSet_7 ?_
  refine r_iconst 1 dX5_isSet_8 (by decide) ?_
  refine r_isub dX5_isSet_9 ?_
  refine r_callS (as := [_, _, _]) okX5_within q1630 dX5_isSet_10 (Nat.le_of_ble_eq_true rfl) rfl (Nat.le_of_ble_eq_true rfl) (Nat.le_of_ble_eq_true rfl) (Nat.le_of_ble_eq_true rfl) (pX5_within ?_)
  exact r_zret (ty := .boolean) dX5_isSet_13 rfl (b2i_nar _) (Nat.le_of_ble_eq_true rfl) (Nat.le_of_ble_eq_true rfl) (hQ)
theorem pX5_isRow {j : Nat} (hj : j < 8) (hQ : Q (some (.int (b2i (inB (hd j) 0 4)))) ((mC th kd ow ag lk co sh hs tp hd rl ro rf ol ah tr od tk fo wi ou ge mo my ev se td fr to tn va im lo), r)) : AMet mX5_isRow 2 0 0 [.ref 0, .int (nI j)] ((mC th kd ow ag lk co sh hs tp hd rl ro rf ol ah tr od tk fo wi ou ge mo my ev se td fr to tn va im lo), r) Q := by
  refine AMet.ofRch rfl rfl (Nat.le_of_ble_eq_true rfl) ?_
  refine r_aload_n dX5_isRow_0 rfl ?_
  refine r_get bX5 17 (by decide) q1540 dX5_isRow_1 rfl rfl ?_
  refine r_iload_n dX5_isRow_4 rfl ?_
  refine r_ialdN dX5_isRow_5 rfl (by omega) (Nat.le_of_ble_eq_true rfl) ?_
  refine r_iconst 0 dX5_isRow_6 (by decide) ?_
  refine r_iconst 4 dX5_isRow_7 (by decide) ?_
  refine r_callS (as := [_, _, _]) okX5_within q1630 dX5_isRow_8 (Nat.le_of_ble_eq_true rfl) rfl (Nat.le_of_ble_eq_true rfl) (Nat.le_of_ble_eq_true rfl) (Nat.le_of_ble_eq_true rfl) (pX5_within ?_)
  exact r_zret (ty := .boolean) dX5_isRow_11 rfl (b2i_nar _) (Nat.le_of_ble_eq_true rfl) (Nat.le_of_ble_eq_true rfl) (hQ)
theorem pX5_manyOf {s : Int32} (hQ : Q (some (.int (nI (cntI (fun p => tr p == s) 12)))) ((mC th kd ow ag lk co sh hs tp hd rl ro rf ol ah tr od tk fo wi ou ge mo my ev se td fr to tn va im lo), r)) : AMet mX5_manyOf 1 0 0 [.ref 0, .int s] ((mC th kd ow ag lk co sh hs tp hd rl ro rf ol ah tr od tk fo wi ou ge mo my ev se td fr to tn va im lo), r) Q := by
  refine AMet.ofRch rfl rfl (Nat.le_of_ble_eq_true rfl) ?_
  refine r_iconst 0 dX5_manyOf_0 (by decide) ?_
  refine r_istore_n dX5_manyOf_1 (Nat.le_of_ble_eq_true rfl) ?_
  refine r_iconst 0 dX5_manyOf_2 (by decide) ?_
  refine r_istore_n dX5_manyOf_3 (Nat.le_of_ble_eq_true rfl) ?_
  refine loopUp (N := 12) (P := fun k => Rch (mX5_manyOf, 1, 0, 0, oQ Q) 0 0 4 [some (.ref 0), some (.int s), some (.int (nI (cntI (fun p => tr p == s) k))), some (.int (nI k))] [] ((mC th kd ow ag lk co sh hs tp hd rl ro rf ol ah tr od tk fo wi ou ge mo my ev se td fr to tn va im lo), r)) ?_ ?_
  · refine r_iload_n dX5_manyOf_4 rfl ?_
    refine r_bipush 12 dX5_manyOf_5 (by decide) ?_
    refine r_icmp_ge 29 dX5_manyOf_7 (by decide) (fun _ => ?_) (fun c_ => absurd (geT 12) c_)
    refine r_iload_n dX5_manyOf_29 rfl ?_
    exact r_iret dX5_manyOf_30 rfl (Nat.le_of_ble_eq_true rfl) (Nat.le_of_ble_eq_true rfl) (hQ)
  · intro k hk ih
    refine r_iload_n dX5_manyOf_4 rfl ?_
    refine r_bipush 12 dX5_manyOf_5 (by decide) ?_
    refine r_icmp_ge 29 dX5_manyOf_7 (by decide) (fun c_ => absurd c_ (geF hk (by decide))) (fun _ => ?_)
    refine r_aload_n dX5_manyOf_10 rfl ?_
    refine r_get bX5 24 (by decide) q1547 dX5_manyOf_11 rfl rfl ?_
    refine r_iload_n dX5_manyOf_14 rfl ?_
    refine r_ialdN dX5_manyOf_15 rfl (by omega) (Nat.le_of_ble_eq_true rfl) ?_
    refine r_iload_n dX5_manyOf_16 rfl ?_
    refine r_icmp_ne 23 dX5_manyOf_17 (by decide) (fun c_17 => ?_) (fun c_17 => ?_)
    · refine r_iincV dX5_manyOf_23 rfl (Nat.le_of_ble_eq_true rfl) (incN _) ?_
      refine r_goto 4 dX5_manyOf_26 (by decide) ?_
      simp only [cntI, beq_iff_eq, c_17, if_true, if_false, Nat.add_zero] at ih
      exact ih
    · refine r_iincV dX5_manyOf_20 rfl (Nat.le_of_ble_eq_true rfl) (incN _) ?_
      refine r_iincV dX5_manyOf_23 rfl (Nat.le_of_ble_eq_true rfl) (incN _) ?_
      refine r_goto 4 dX5_manyOf_26 (by decide) ?_
      simp only [cntI, beq_iff_eq, c_17, if_true, if_false, Nat.add_zero] at ih
      exact ih
theorem pX5_firstWith {s : Int32} (hQ : Q (some (.int (fstI (fun p => tr p == s) 12))) ((mC th kd ow ag lk co sh hs tp hd rl ro rf ol ah tr od tk fo wi ou ge mo my ev se td fr to tn va im lo), r)) : AMet mX5_firstWith 1 0 0 [.ref 0, .int s] ((mC th kd ow ag lk co sh hs tp hd rl ro rf ol ah tr od tk fo wi ou ge mo my ev se td fr to tn va im lo), r) Q := by
  refine AMet.ofRch rfl rfl (Nat.le_of_ble_eq_true rfl) ?_
  refine r_iconst 0 dX5_firstWith_0 (by decide) ?_
  refine r_istore_n dX5_firstWith_1 (Nat.le_of_ble_eq_true rfl) ?_
  refine loopUp (N := 12) (P := fun k => Q (some (.int (fstG (fun p => tr p == s) (12 - k) k))) ((mC th kd ow ag lk co sh hs tp hd rl ro rf ol ah tr od tk fo wi ou ge mo my ev se td fr to tn va im lo), r) → Rch (mX5_firstWith, 1, 0, 0, oQ Q) 0 0 2 [some (.ref 0), some (.int s), some (.int (nI k))] [] ((mC th kd ow ag lk co sh hs tp hd rl ro rf ol ah tr od tk fo wi ou ge mo my ev se td fr to tn va im lo), r)) ?_ ?_ hQ
  · intro hq
    refine r_iload_n dX5_firstWith_2 rfl ?_
    refine r_bipush 12 dX5_firstWith_3 (by decide) ?_
    refine r_icmp_ge 26 dX5_firstWith_5 (by decide) (fun _ => ?_) (fun c_ => absurd (geT 12) c_)
    refine r_iconst (-1) dX5_firstWith_26 (by decide) ?_
    exact r_iret dX5_firstWith_27 rfl (Nat.le_of_ble_eq_true rfl) (Nat.le_of_ble_eq_true rfl) (hq)
  · intro k hk ih hq
    refine r_iload_n dX5_firstWith_2 rfl ?_
    refine r_bipush 12 dX5_firstWith_3 (by decide) ?_
    refine r_icmp_ge 26 dX5_firstWith_5 (by decide) (fun c_ => absurd c_ (geF hk (by decide))) (fun _ => ?_)
    refine r_aload_n dX5_firstWith_8 rfl ?_
    refine r_get bX5 24 (by decide) q1547 dX5_firstWith_9 rfl rfl ?_
    refine r_iload_n dX5_firstWith_12 rfl ?_
    refine r_ialdN dX5_firstWith_13 rfl (by omega) (Nat.le_of_ble_eq_true rfl) ?_
    refine r_iload_n dX5_firstWith_14 rfl ?_
    refine r_icmp_ne 20 dX5_firstWith_15 (by decide) (fun c_15 => ?_) (fun c_15 => ?_)
    · refine r_iincV dX5_firstWith_20 rfl (Nat.le_of_ble_eq_true rfl) (incN _) ?_
      refine r_goto 2 dX5_firstWith_23 (by decide) ?_
      exact ih (qv (fstG_f (c := fun p => tr p == s) hk (by simp [c_15])).symm hq)
    · refine r_iload_n dX5_firstWith_18 rfl ?_
      exact r_iret dX5_firstWith_19 rfl (Nat.le_of_ble_eq_true rfl) (Nat.le_of_ble_eq_true rfl) (qi (fstG_t (c := fun p => tr p == s) hk (by simp [c_15])).symm hq)
theorem pX5_leftThen (hQ : Q (some (.int (bitsI (fun p => tr p != -1) 12))) ((mC th kd ow ag lk co sh hs tp hd rl ro rf ol ah tr od tk fo wi ou ge mo my ev se td fr to tn va im lo), r)) : AMet mX5_leftThen 1 0 0 [.ref 0] ((mC th kd ow ag lk co sh hs tp hd rl ro rf ol ah tr od tk fo wi ou ge mo my ev se td fr to tn va im lo), r) Q := by
  refine AMet.ofRch rfl rfl (Nat.le_of_ble_eq_true rfl) ?_
  refine r_iconst 0 dX5_leftThen_0 (by decide) ?_
  refine r_istore_n dX5_leftThen_1 (Nat.le_of_ble_eq_true rfl) ?_
  refine r_iconst 0 dX5_leftThen_2 (by decide) ?_
  refine r_istore_n dX5_leftThen_3 (Nat.le_of_ble_eq_true rfl) ?_
  refine loopUp (N := 12) (P := fun k => Rch (mX5_leftThen, 1, 0, 0, oQ Q) 0 0 4 [some (.ref 0), some (.int (bitsI (fun p => tr p != -1) k)), some (.int (nI k))] [] ((mC th kd ow ag lk co sh hs tp hd rl ro rf ol ah tr od tk fo wi ou ge mo my ev se td fr to tn va im lo), r)) ?_ ?_
  · refine r_iload_n dX5_leftThen_4 rfl ?_
    refine r_bipush 12 dX5_leftThen_5 (by decide) ?_
    refine r_icmp_ge 32 dX5_leftThen_7 (by decide) (fun _ => ?_) (fun c_ => absurd (geT 12) c_)
    refine r_iload_n dX5_leftThen_32 rfl ?_
    exact r_iret dX5_leftThen_33 rfl (Nat.le_of_ble_eq_true rfl) (Nat.le_of_ble_eq_true rfl) (hQ)
  · intro k hk ih
    refine r_iload_n dX5_leftThen_4 rfl ?_
    refine r_bipush 12 dX5_leftThen_5 (by decide) ?_
    refine r_icmp_ge 32 dX5_leftThen_7 (by decide) (fun c_ => absurd c_ (geF hk (by decide))) (fun _ => ?_)
    refine r_aload_n dX5_leftThen_10 rfl ?_
    refine r_get bX5 24 (by decide) q1547 dX5_leftThen_11 rfl rfl ?_
    refine r_iload_n dX5_leftThen_14 rfl ?_
    refine r_ialdN dX5_leftThen_15 rfl (by omega) (Nat.le_of_ble_eq_true rfl) ?_
    refine r_iconst (-1) dX5_leftThen_16 (by decide) ?_
    refine r_icmp_eq 26 dX5_leftThen_17 (by decide) (fun c_17 => ?_) (fun c_17 => ?_)
    · refine r_iincV dX5_leftThen_26 rfl (Nat.le_of_ble_eq_true rfl) (incN _) ?_
      refine r_goto 4 dX5_leftThen_29 (by decide) ?_
      simp only [bitsI, bne_iff_ne, ne_eq, c_17, not_true, not_false_iff, if_true, if_false, or0] at ih
      exact ih
    · refine r_iload_n dX5_leftThen_20 rfl ?_
      refine r_iconst 1 dX5_leftThen_21 (by decide) ?_
      refine r_iload_n dX5_leftThen_22 rfl ?_
      refine r_ishl dX5_leftThen_23 ?_
      refine r_ior dX5_leftThen_24 ?_
      refine r_istore_n dX5_leftThen_25 (Nat.le_of_ble_eq_true rfl) ?_
      refine r_iincV dX5_leftThen_26 rfl (Nat.le_of_ble_eq_true rfl) (incN _) ?_
      refine r_goto 4 dX5_leftThen_29 (by decide) ?_
      simp only [bitsI, bne_iff_ne, ne_eq, c_17, not_true, not_false_iff, if_true, if_false, or0] at ih
      exact ih
end MM
