set_option maxRecDepth 100000
/-! the reference: shelves, the window as it is told -/
theorem inB_ex {p M : Int32} (n : Nat) (hM : M.toInt = n) (h : inB p 0 M = true) : ∃ j, j ≤ n ∧ p = nI j := by
  simp only [inB, Bool.and_eq_true, decide_eq_true_eq] at h
  exact nI_of2 hM (Int32.not_lt.mpr h.1) h.2
theorem inB_t {v a b : Int32} (h1 : a ≤ v) (h2 : v ≤ b) : inB v a b = true := by simp [inB, h1, h2]
theorem inB_nI {j N : Nat} (h : j ≤ N) (hN : N < 2 ^ 31) : inB (nI j) 0 (nI N) = true := inB_t (nI_pos' (by omega)) (nI_le h hN)
theorem inB_nIf {j N : Nat} (h : N < j) (hN : j < 2 ^ 31) : inB (nI j) 0 (nI N) = false := by
  simp only [inB, Bool.and_eq_false_iff, decide_eq_false_iff_not]
  exact Or.inr (nI_ge h hN)
def zrF (ro : Nat → Int64) (b k : Nat) : Nat → Int64 := fun i => if b ≤ i ∧ i < b + k then 0 else ro i
theorem zr_0 (ro : Nat → Int64) (b : Nat) : zrF ro b 0 = ro := by
  funext i
  simp only [zrF]
  rw [if_neg (by omega)]
theorem zr_up (ro : Nat → Int64) (b k : Nat) : vp_updL (zrF ro b k) (b + k) 0 = zrF ro b (k + 1) := by
  funext i
  by_cases h : i = b + k
  · rw [h, pk_uLs]
    simp [zrF]
  · rw [pk_uLn h]
    simp only [zrF]
    by_cases h2 : b ≤ i ∧ i < b + k
    · rw [if_pos h2, if_pos (by omega)]
    · rw [if_neg h2, if_neg (by omega)]
def keF (k : Nat) (v : Int64) : Int64 := match k with
  | 0 => v.toInt32.toInt8.toInt32.toInt64
  | 1 => v.toInt32.toInt16.toInt32.toInt64
  | 2 => v.toInt32.toInt64
  | 3 => v
  | _ => if v = 0 then 0 else 1
theorem lgc0 {v : Int64} : lg_cmp v 0 = 0 ↔ v = 0 := by
  unfold lg_cmp
  constructor
  · intro h
    split at h
    · exact absurd h (by decide)
    · split at h
      · assumption
      · exact absurd h (by decide)
  · intro h
    subst h
    decide
/-- an index below a length -/
theorem inB_m {i : Int32} {m : Nat} (h : inB i 0 (nI m - 1) = true) (hm : m < 2 ^ 31) : ∃ q, q < m ∧ i = nI q := by
  match m, h, hm with
  | 0, h, _ =>
    simp only [inB, Bool.and_eq_true, decide_eq_true_eq] at h
    have h2 : i ≤ -1 := h.2
    exact absurd (Int32.le_trans h.1 h2) (by decide)
  | m + 1, h, hm =>
    rw [nI_pred] at h
    obtain ⟨j, h1, h2⟩ := inB_ex m (nI_toInt (by omega)) h
    exact ⟨j, by omega, h2⟩
theorem inB_mI {q m : Nat} (h : q < m) (hm : m < 2 ^ 31) : inB (nI q) 0 (nI m - 1) = true := by
  match m, h, hm with
  | m + 1, h, hm => rw [nI_pred]; exact inB_nI (by omega) (by omega)
section MM
variable {th kd ow ag lk co sh hs tp hd rl : Nat → Int32} {ro : Nat → Int64} {rf ol ah tr od tk fo wi ou ge mo : Nat → Int32} {my ev se td fr to tn va im lo : Int32} {r : List AC × List AC × List AC} {Q : Option Value → AHp → Prop}
theorem pX5_row {s t n : Int32} (hbad : (inB s 0 7 && (inB t 0 4 && inB n 0 40)) = false → Q (some (.int (-2))) ((mC th kd ow ag lk co sh hs tp hd rl ro (upd rf 2 (rf 2 + 1)) ol ah tr od tk fo wi ou ge mo my ev se td fr to tn va im lo), r)) (hok : ∀ j, j < 8 → s = nI j → inB t 0 4 = true → inB n 0 40 = true → Q (some (.int 1)) ((mC th kd ow ag lk co sh hs tp (upd hd j t) (upd rl j n) (zrF ro (40 * j) 40) rf ol ah tr od tk fo wi ou ge mo my ev se td fr to tn va im lo), r)) : AMet mX5_row 3 0 0 [.ref 0, .int s, .int t, .int n] ((mC th kd ow ag lk co sh hs tp hd rl ro rf ol ah tr od tk fo wi ou ge mo my ev se td fr to tn va im lo), r) Q := by
  refine AMet.ofRch rfl rfl (Nat.le_of_ble_eq_true rfl) ?_
  have hgo : inB s 0 7 = true → inB t 0 4 = true → inB n 0 40 = true → Rch (mX5_row, 3, 0, 0, oQ Q) 0 0 33 [some (.ref 0), some (.int s), some (.int t), some (.int n), none] [] ((mC th kd ow ag lk co sh hs tp hd rl ro rf ol ah tr od tk fo wi ou ge mo my ev se td fr to tn va im lo), r) := by
    intro g1 g2 g3
    obtain ⟨j, hj, rfl⟩ := inB_ex 7 (by decide) g1
    refine r_aload_n dX5_row_33 rfl ?_
    refine r_get bX5 17 (by decide) q1540 dX5_row_34 rfl rfl ?_
    refine r_iload_n dX5_row_37 rfl ?_
    refine r_iload_n dX5_row_38 rfl ?_
    refine r_iastN dX5_row_39 rfl (by omega) (Nat.le_of_ble_eq_true rfl) ?_
    refine r_aload_n dX5_row_40 rfl ?_
    refine r_get bX5 18 (by decide) q1541 dX5_row_41 rfl rfl ?_
    refine r_iload_n dX5_row_44 rfl ?_
    refine r_iload_n dX5_row_45 rfl ?_
    refine r_iastN dX5_row_46 rfl (by omega) (Nat.le_of_ble_eq_true rfl) ?_
    refine r_iconst 0 dX5_row_47 (by decide) ?_
    refine r_istore dX5_row_48 (Nat.le_of_ble_eq_true rfl) ?_
    refine eqP (P := fun z => Rch (mX5_row, 3, 0, 0, oQ Q) 0 0 50 [some (.ref 0), some (.int (nI j)), some (.int t), some (.int n), some (.int (nI 0))] [] ((mC th kd ow ag lk co sh hs tp (upd hd j t) (upd rl j n) (z) rf ol ah tr od tk fo wi ou ge mo my ev se td fr to tn va im lo), r)) (zr_0 ro (40 * j)) ?_
    refine loopUp (N := 40) (P := fun k => Rch (mX5_row, 3, 0, 0, oQ Q) 0 0 50 [some (.ref 0), some (.int (nI j)), some (.int t), some (.int n), some (.int (nI k))] [] ((mC th kd ow ag lk co sh hs tp (upd hd j t) (upd rl j n) (zrF ro (40 * j) k) rf ol ah tr od tk fo wi ou ge mo my ev se td fr to tn va im lo), r)) ?_ ?_
    · refine r_iload dX5_row_50 rfl ?_
      refine r_bipush 40 dX5_row_52 (by decide) ?_
      refine r_icmp_ge 76 dX5_row_54 (by decide) (fun _ => ?_) (fun c_ => absurd (geT 40) c_)
      refine r_iconst 1 dX5_row_76 (by decide) ?_
      exact r_iret dX5_row_77 rfl (Nat.le_of_ble_eq_true rfl) (Nat.le_of_ble_eq_true rfl) (hok j (by omega) rfl g2 g3)
    · intro k hk ih
      refine r_iload dX5_row_50 rfl ?_
      refine r_bipush 40 dX5_row_52 (by decide) ?_
      refine r_icmp_ge 76 dX5_row_54 (by decide) (fun c_ => absurd c_ (geF hk (by decide))) (fun _ => ?_)
      refine r_aload_n dX5_row_57 rfl ?_
      refine r_get bX5 19 (by decide) q1542 dX5_row_58 rfl rfl ?_
      refine r_bipush 40 dX5_row_61 (by decide) ?_
      refine r_iload_n dX5_row_63 rfl ?_
      refine r_imul dX5_row_64 ?_
      rw [show (40 : Int32) * nI j = nI (40 * j) from pk_mul 40 j]
      refine r_iload dX5_row_65 rfl ?_
      refine r_iadd dX5_row_67 ?_
      rw [nI_add]
      refine r_lconst 0 dX5_row_68 (by decide) ?_
      refine r_lastN dX5_row_69 rfl (by omega) (Nat.le_of_ble_eq_true rfl) ?_
      refine r_iincV dX5_row_70 rfl (Nat.le_of_ble_eq_true rfl) (incN _) ?_
      refine r_goto 50 dX5_row_73 (by decide) ?_
      rw [← zr_up] at ih
      exact ih
  refine r_iload_n dX5_row_0 rfl ?_
  refine r_callS (as := [_]) okX5_isShelf q1627 dX5_row_1 (Nat.le_of_ble_eq_true rfl) rfl (Nat.le_of_ble_eq_true rfl) (Nat.le_of_ble_eq_true rfl) (Nat.le_of_ble_eq_true rfl) (pX5_isShelf ?_)
  refine r_if_eq 26 dX5_row_4 (by decide) (fun c_4 => ?_) (fun c_4 => ?_)
  · refine r_aload_n dX5_row_26 rfl ?_
    refine r_bipush (-2) dX5_row_27 (by decide) ?_
    refine r_callV (as := [_]) okX5_no bX5 rfl rfl q1633 dX5_row_29 (Nat.le_of_ble_eq_true rfl) rfl (Nat.le_of_ble_eq_true rfl) (Nat.le_of_ble_eq_true rfl) (Nat.le_of_ble_eq_true rfl) (pX5_no 2 (by decide) (by decide) ?_)
    exact r_iret dX5_row_32 rfl (Nat.le_of_ble_eq_true rfl) (Nat.le_of_ble_eq_true rfl) (hbad (by simp_all [b2i_0]))
  · refine r_iload_n dX5_row_7 rfl ?_
    refine r_iconst 0 dX5_row_8 (by decide) ?_
    refine r_iconst 4 dX5_row_9 (by decide) ?_
    refine r_callS (as := [_, _, _]) okX5_within q1630 dX5_row_10 (Nat.le_of_ble_eq_true rfl) rfl (Nat.le_of_ble_eq_true rfl) (Nat.le_of_ble_eq_true rfl) (Nat.le_of_ble_eq_true rfl) (pX5_within ?_)
    refine r_if_eq 26 dX5_row_13 (by decide) (fun c_13 => ?_) (fun c_13 => ?_)
    · refine r_aload_n dX5_row_26 rfl ?_
      refine r_bipush (-2) dX5_row_27 (by decide) ?_
      refine r_callV (as := [_]) okX5_no bX5 rfl rfl q1633 dX5_row_29 (Nat.le_of_ble_eq_true rfl) rfl (Nat.le_of_ble_eq_true rfl) (Nat.le_of_ble_eq_true rfl) (Nat.le_of_ble_eq_true rfl) (pX5_no 2 (by decide) (by decide) ?_)
      exact r_iret dX5_row_32 rfl (Nat.le_of_ble_eq_true rfl) (Nat.le_of_ble_eq_true rfl) (hbad (by simp_all [b2i_0]))
    · refine r_iload_n dX5_row_16 rfl ?_
      refine r_iconst 0 dX5_row_17 (by decide) ?_
      refine r_bipush 40 dX5_row_18 (by decide) ?_
      refine r_callS (as := [_, _, _]) okX5_within q1630 dX5_row_20 (Nat.le_of_ble_eq_true rfl) rfl (Nat.le_of_ble_eq_true rfl) (Nat.le_of_ble_eq_true rfl) (Nat.le_of_ble_eq_true rfl) (pX5_within ?_)
      refine r_if_ne 33 dX5_row_23 (by decide) (fun c_23 => ?_) (fun c_23 => ?_)
      · exact hgo (b2i_n.mp c_4) (b2i_n.mp c_13) (b2i_n.mp c_23)
      · refine r_aload_n dX5_row_26 rfl ?_
        refine r_bipush (-2) dX5_row_27 (by decide) ?_
        refine r_callV (as := [_]) okX5_no bX5 rfl rfl q1633 dX5_row_29 (Nat.le_of_ble_eq_true rfl) rfl (Nat.le_of_ble_eq_true rfl) (Nat.le_of_ble_eq_true rfl) (Nat.le_of_ble_eq_true rfl) (pX5_no 2 (by decide) (by decide) ?_)
        exact r_iret dX5_row_32 rfl (Nat.le_of_ble_eq_true rfl) (Nat.le_of_ble_eq_true rfl) (hbad (by simp_all [b2i_0]))
theorem pX5_noRow {j : Nat} (hj : j < 8) (hQ : Q (some (.int (if 10 ≤ hd j then -3 else if hd j < 0 then -4 else 0))) ((mC th kd ow ag lk co sh hs tp hd rl ro rf ol ah tr od tk fo wi ou ge mo my ev se td fr to tn va im lo), r)) : AMet mX5_noRow 1 0 0 [.ref 0, .int (nI j)] ((mC th kd ow ag lk co sh hs tp hd rl ro rf ol ah tr od tk fo wi ou ge mo my ev se td fr to tn va im lo), r) Q := by
  refine AMet.ofRch rfl rfl (Nat.le_of_ble_eq_true rfl) ?_
  refine r_aload_n dX5_noRow_0 rfl ?_
  refine r_get bX5 17 (by decide) q1540 dX5_noRow_1 rfl rfl ?_
  refine r_iload_n dX5_noRow_4 rfl ?_
  refine r_ialdN dX5_noRow_5 rfl (by omega) (Nat.le_of_ble_eq_true rfl) ?_
  refine r_bipush 10 dX5_noRow_6 (by decide) ?_
  refine r_icmp_lt 16 dX5_noRow_8 (by decide) (fun c_8 => ?_) (fun c_8 => ?_)
  · refine r_aload_n dX5_noRow_16 rfl ?_
    refine r_get bX5 17 (by decide) q1540 dX5_noRow_17 rfl rfl ?_
    refine r_iload_n dX5_noRow_20 rfl ?_
    refine r_ialdN dX5_noRow_21 rfl (by omega) (Nat.le_of_ble_eq_true rfl) ?_
    refine r_if_ge 30 dX5_noRow_22 (by decide) (fun c_22 => ?_) (fun c_22 => ?_)
    · refine r_iconst 0 dX5_noRow_30 (by decide) ?_
      exact r_iret dX5_noRow_31 rfl (Nat.le_of_ble_eq_true rfl) (Nat.le_of_ble_eq_true rfl) (qi (by first | rw [if_neg (Int32.not_le.mpr c_8), if_neg (Int32.not_lt.mpr c_22)] | rw [if_neg (Int32.not_le.mpr c_8), if_pos (Int32.not_le.mp c_22)] | rw [if_pos (Int32.not_lt.mp c_8)]) hQ)
    · refine r_bipush (-4) dX5_noRow_25 (by decide) ?_
      refine r_goto 31 dX5_noRow_27 (by decide) ?_
      exact r_iret dX5_noRow_31 rfl (Nat.le_of_ble_eq_true rfl) (Nat.le_of_ble_eq_true rfl) (qi (by first | rw [if_neg (Int32.not_le.mpr c_8), if_neg (Int32.not_lt.mpr c_22)] | rw [if_neg (Int32.not_le.mpr c_8), if_pos (Int32.not_le.mp c_22)] | rw [if_pos (Int32.not_lt.mp c_8)]) hQ)
  · refine r_bipush (-3) dX5_noRow_11 (by decide) ?_
    refine r_goto 31 dX5_noRow_13 (by decide) ?_
    exact r_iret dX5_noRow_31 rfl (Nat.le_of_ble_eq_true rfl) (Nat.le_of_ble_eq_true rfl) (qi (by first | rw [if_neg (Int32.not_le.mpr c_8), if_neg (Int32.not_lt.mpr c_22)] | rw [if_neg (Int32.not_le.mpr c_8), if_pos (Int32.not_le.mp c_22)] | rw [if_pos (Int32.not_lt.mp c_8)]) hQ)
theorem pX5_kept {h : AHp} {k : Nat} {v : Int64} (hk : k < 5) (hQ : Q (some (.long (keF k v))) h) : AMet mX5_kept 1 0 0 [.int (nI k), .long v] h Q := by
  refine AMet.ofRch rfl rfl (Nat.le_of_ble_eq_true rfl) ?_
  rcases (show k = 0 ∨ k = 1 ∨ k = 2 ∨ k = 3 ∨ k = 4 by omega) with rfl | rfl | rfl | rfl | rfl
  · refine r_iload_n dX5_kept_0 rfl ?_
    refine r_tableIn 32 dX5_kept_1 (by decide) (by decide) rfl (by decide) ?_
    refine r_lload_n dX5_kept_32 rfl ?_
    refine r_l2i dX5_kept_33 ?_
    refine r_i2b dX5_kept_34 ?_
    refine r_i2l dX5_kept_35 ?_
    exact r_lret dX5_kept_36 rfl (Nat.le_of_ble_eq_true rfl) (Nat.le_of_ble_eq_true rfl) (hQ)
  · refine r_iload_n dX5_kept_0 rfl ?_
    refine r_tableIn 37 dX5_kept_1 (by decide) (by decide) rfl (by decide) ?_
    refine r_lload_n dX5_kept_37 rfl ?_
    refine r_l2i dX5_kept_38 ?_
    refine r_i2s dX5_kept_39 ?_
    refine r_i2l dX5_kept_40 ?_
    exact r_lret dX5_kept_41 rfl (Nat.le_of_ble_eq_true rfl) (Nat.le_of_ble_eq_true rfl) (hQ)
  · refine r_iload_n dX5_kept_0 rfl ?_
    refine r_tableIn 42 dX5_kept_1 (by decide) (by decide) rfl (by decide) ?_
    refine r_lload_n dX5_kept_42 rfl ?_
    refine r_l2i dX5_kept_43 ?_
    refine r_i2l dX5_kept_44 ?_
    exact r_lret dX5_kept_45 rfl (Nat.le_of_ble_eq_true rfl) (Nat.le_of_ble_eq_true rfl) (hQ)
  · refine r_iload_n dX5_kept_0 rfl ?_
    refine r_tableIn 46 dX5_kept_1 (by decide) (by decide) rfl (by decide) ?_
    refine r_lload_n dX5_kept_46 rfl ?_
    exact r_lret dX5_kept_47 rfl (Nat.le_of_ble_eq_true rfl) (Nat.le_of_ble_eq_true rfl) (hQ)
  · refine r_iload_n dX5_kept_0 rfl ?_
    refine r_tableOut 48 dX5_kept_1 (by decide) (by decide) ?_
    refine r_lload_n dX5_kept_48 rfl ?_
    refine r_lconst 0 dX5_kept_49 (by decide) ?_
    refine r_lcmp dX5_kept_50 ?_
    refine r_if_eq 58 dX5_kept_51 (by decide) (fun c_51 => ?_) (fun c_51 => ?_)
    · refine r_lconst 0 dX5_kept_58 (by decide) ?_
      exact r_lret dX5_kept_59 rfl (Nat.le_of_ble_eq_true rfl) (Nat.le_of_ble_eq_true rfl) (ql (by simp only [keF]; first | rw [if_pos (lgc0.mp c_51)] | rw [if_neg (fun z => c_51 (lgc0.mpr z))]) hQ)
    · refine r_lconst 1 dX5_kept_54 (by decide) ?_
      refine r_goto 59 dX5_kept_55 (by decide) ?_
      exact r_lret dX5_kept_59 rfl (Nat.le_of_ble_eq_true rfl) (Nat.le_of_ble_eq_true rfl) (ql (by simp only [keF]; first | rw [if_pos (lgc0.mp c_51)] | rw [if_neg (fun z => c_51 (lgc0.mpr z))]) hQ)
theorem pX5_set_bad {s i : Int32} {v : Int64} (hb : inB s 0 7 = false) (hQ : Q (some (.int (-2))) ((mC th kd ow ag lk co sh hs tp hd rl ro (upd rf 2 (rf 2 + 1)) ol ah tr od tk fo wi ou ge mo my ev se td fr to tn va im lo), r)) : AMet mX5_set 3 0 0 [.ref 0, .int s, .int i, .long v] ((mC th kd ow ag lk co sh hs tp hd rl ro rf ol ah tr od tk fo wi ou ge mo my ev se td fr to tn va im lo), r) Q := by
  refine AMet.ofRch rfl rfl (Nat.le_of_ble_eq_true rfl) ?_
  refine r_iload_n dX5_set_0 rfl ?_
  refine r_callS (as := [_]) okX5_isShelf q1627 dX5_set_1 (Nat.le_of_ble_eq_true rfl) rfl (Nat.le_of_ble_eq_true rfl) (Nat.le_of_ble_eq_true rfl) (Nat.le_of_ble_eq_true rfl) (pX5_isShelf ?_)
  refine r_if_ne 14 dX5_set_4 (by decide) (fun c_ => absurd (b2i_0.mpr hb) c_) (fun _ => ?_)
  refine r_aload_n dX5_set_7 rfl ?_
  refine r_bipush (-2) dX5_set_8 (by decide) ?_
  refine r_callV (as := [_]) okX5_no bX5 rfl rfl q1633 dX5_set_10 (Nat.le_of_ble_eq_true rfl) rfl (Nat.le_of_ble_eq_true rfl) (Nat.le_of_ble_eq_true rfl) (Nat.le_of_ble_eq_true rfl) (pX5_no 2 (by decide) (by decide) ?_)
  exact r_iret dX5_set_13 rfl (Nat.le_of_ble_eq_true rfl) (Nat.le_of_ble_eq_true rfl) (hQ)
theorem inB_neg {b : Int32} : inB (-1) 0 b = false := by
  simp only [inB, Bool.and_eq_false_iff]
  exact Or.inl (by decide)
theorem pX5_set_none {j : Nat} {i : Int32} {v : Int64} (hj : j < 8) (hh : hd j = -1) (hQ : Q (some (.int (-4))) ((mC th kd ow ag lk co sh hs tp hd rl ro (upd rf 4 (rf 4 + 1)) ol ah tr od tk fo wi ou ge mo my ev se td fr to tn va im lo), r)) : AMet mX5_set 3 0 0 [.ref 0, .int (nI j), .int i, .long v] ((mC th kd ow ag lk co sh hs tp hd rl ro rf ol ah tr od tk fo wi ou ge mo my ev se td fr to tn va im lo), r) Q := by
  refine AMet.ofRch rfl rfl (Nat.le_of_ble_eq_true rfl) ?_
  refine r_iload_n dX5_set_0 rfl ?_
  refine r_callS (as := [_]) okX5_isShelf q1627 dX5_set_1 (Nat.le_of_ble_eq_true rfl) rfl (Nat.le_of_ble_eq_true rfl) (Nat.le_of_ble_eq_true rfl) (Nat.le_of_ble_eq_true rfl) (pX5_isShelf ?_)
  refine r_if_ne 14 dX5_set_4 (by decide) (fun _ => ?_) (fun c_ => absurd c_ (b2i_n.mpr (inB_nI (N := 7) (by omega) (by decide))))
  refine r_aload_n dX5_set_14 rfl ?_
  refine r_iload_n dX5_set_15 rfl ?_
  refine r_callV (as := [_]) okX5_isRow bX5 rfl rfl q1641 dX5_set_16 (Nat.le_of_ble_eq_true rfl) rfl (Nat.le_of_ble_eq_true rfl) (Nat.le_of_ble_eq_true rfl) (Nat.le_of_ble_eq_true rfl) (pX5_isRow hj ?_)
  refine r_if_ne 32 dX5_set_19 (by decide) (fun c_ => absurd (b2i_0.mpr (by rw [hh]; exact inB_neg)) c_) (fun _ => ?_)
  refine r_aload_n dX5_set_22 rfl ?_
  refine r_aload_n dX5_set_23 rfl ?_
  refine r_iload_n dX5_set_24 rfl ?_
  refine r_callV (as := [_]) okX5_noRow bX5 rfl rfl q1645 dX5_set_25 (Nat.le_of_ble_eq_true rfl) rfl (Nat.le_of_ble_eq_true rfl) (Nat.le_of_ble_eq_true rfl) (Nat.le_of_ble_eq_true rfl) (pX5_noRow hj ?_)
  rw [hh]
  refine r_callV (as := [_]) okX5_no bX5 rfl rfl q1633 dX5_set_28 (Nat.le_of_ble_eq_true rfl) rfl (Nat.le_of_ble_eq_true rfl) (Nat.le_of_ble_eq_true rfl) (Nat.le_of_ble_eq_true rfl) (pX5_no 4 (by decide) (by decide) ?_)
  exact r_iret dX5_set_31 rfl (Nat.le_of_ble_eq_true rfl) (Nat.le_of_ble_eq_true rfl) (hQ)
theorem pX5_set_look {j l : Nat} {i : Int32} {v : Int64} (hj : j < 8) (hl : l < 8) (hh : hd j = nI (10 + l)) (hQ : Q (some (.int (-3))) ((mC th kd ow ag lk co sh hs tp hd rl ro (upd rf 3 (rf 3 + 1)) ol ah tr od tk fo wi ou ge mo my ev se td fr to tn va im lo), r)) : AMet mX5_set 3 0 0 [.ref 0, .int (nI j), .int i, .long v] ((mC th kd ow ag lk co sh hs tp hd rl ro rf ol ah tr od tk fo wi ou ge mo my ev se td fr to tn va im lo), r) Q := by
  refine AMet.ofRch rfl rfl (Nat.le_of_ble_eq_true rfl) ?_
  refine r_iload_n dX5_set_0 rfl ?_
  refine r_callS (as := [_]) okX5_isShelf q1627 dX5_set_1 (Nat.le_of_ble_eq_true rfl) rfl (Nat.le_of_ble_eq_true rfl) (Nat.le_of_ble_eq_true rfl) (Nat.le_of_ble_eq_true rfl) (pX5_isShelf ?_)
  refine r_if_ne 14 dX5_set_4 (by decide) (fun _ => ?_) (fun c_ => absurd c_ (b2i_n.mpr (inB_nI (N := 7) (by omega) (by decide))))
  refine r_aload_n dX5_set_14 rfl ?_
  refine r_iload_n dX5_set_15 rfl ?_
  refine r_callV (as := [_]) okX5_isRow bX5 rfl rfl q1641 dX5_set_16 (Nat.le_of_ble_eq_true rfl) rfl (Nat.le_of_ble_eq_true rfl) (Nat.le_of_ble_eq_true rfl) (Nat.le_of_ble_eq_true rfl) (pX5_isRow hj ?_)
  refine r_if_ne 32 dX5_set_19 (by decide) (fun c_ => absurd (b2i_0.mpr (by rw [hh]; exact inB_nIf (N := 4) (by omega) (by omega))) c_) (fun _ => ?_)
  refine r_aload_n dX5_set_22 rfl ?_
  refine r_aload_n dX5_set_23 rfl ?_
  refine r_iload_n dX5_set_24 rfl ?_
  refine r_callV (as := [_]) okX5_noRow bX5 rfl rfl q1645 dX5_set_25 (Nat.le_of_ble_eq_true rfl) rfl (Nat.le_of_ble_eq_true rfl) (Nat.le_of_ble_eq_true rfl) (Nat.le_of_ble_eq_true rfl) (pX5_noRow hj ?_)
  rw [hh, if_pos (show (10 : Int32) ≤ nI (10 + l) from nI_le (a := 10) (by omega) (by omega))]
  refine r_callV (as := [_]) okX5_no bX5 rfl rfl q1633 dX5_set_28 (Nat.le_of_ble_eq_true rfl) rfl (Nat.le_of_ble_eq_true rfl) (Nat.le_of_ble_eq_true rfl) (Nat.le_of_ble_eq_true rfl) (pX5_no 3 (by decide) (by decide) ?_)
  exact r_iret dX5_set_31 rfl (Nat.le_of_ble_eq_true rfl) (Nat.le_of_ble_eq_true rfl) (hQ)
theorem pX5_set_row {j k m : Nat} {i : Int32} {v : Int64} (hj : j < 8) (hk : k < 5) (hh : hd j = nI k) (hm : m ≤ 40) (hl : rl j = nI m) (hbad : inB i 0 (nI m - 1) = false → Q (some (.int (-2))) ((mC th kd ow ag lk co sh hs tp hd rl ro (upd rf 2 (rf 2 + 1)) ol ah tr od tk fo wi ou ge mo my ev se td fr to tn va im lo), r)) (hok : ∀ q, q < m → i = nI q → Q (some (.int 1)) ((mC th kd ow ag lk co sh hs tp hd rl (vp_updL ro (40 * j + q) (keF k v)) rf ol ah tr od tk fo wi ou ge mo my ev se td fr to tn va im lo), r)) : AMet mX5_set 3 0 0 [.ref 0, .int (nI j), .int i, .long v] ((mC th kd ow ag lk co sh hs tp hd rl ro rf ol ah tr od tk fo wi ou ge mo my ev se td fr to tn va im lo), r) Q := by
  refine AMet.ofRch rfl rfl (Nat.le_of_ble_eq_true rfl) ?_
  have hgo : inB i 0 (nI m - 1) = true → Rch (mX5_set, 3, 0, 0, oQ Q) 0 0 55 [some (.ref 0), some (.int (nI j)), some (.int i), some (.long v), none] [] ((mC th kd ow ag lk co sh hs tp hd rl ro rf ol ah tr od tk fo wi ou ge mo my ev se td fr to tn va im lo), r) := by
    intro g
    obtain ⟨q, hq, rfl⟩ := inB_m g (by omega)
    refine r_aload_n dX5_set_55 rfl ?_
    refine r_get bX5 19 (by decide) q1542 dX5_set_56 rfl rfl ?_
    refine r_bipush 40 dX5_set_59 (by decide) ?_
    refine r_iload_n dX5_set_61 rfl ?_
    refine r_imul dX5_set_62 ?_
    rw [show (40 : Int32) * nI j = nI (40 * j) from pk_mul 40 j]
    refine r_iload_n dX5_set_63 rfl ?_
    refine r_iadd dX5_set_64 ?_
    rw [nI_add]
    refine r_aload_n dX5_set_65 rfl ?_
    refine r_get bX5 17 (by decide) q1540 dX5_set_66 rfl rfl ?_
    refine r_iload_n dX5_set_69 rfl ?_
    refine r_ialdN dX5_set_70 rfl (by omega) (Nat.le_of_ble_eq_true rfl) ?_
    rw [hh]
    refine r_lload_n dX5_set_71 rfl ?_
    refine r_callS (as := [_, _]) okX5_kept q1649 dX5_set_72 (Nat.le_of_ble_eq_true rfl) rfl (Nat.le_of_ble_eq_true rfl) (Nat.le_of_ble_eq_true rfl) (Nat.le_of_ble_eq_true rfl) (pX5_kept hk ?_)
    refine r_lastN dX5_set_75 rfl (by omega) (Nat.le_of_ble_eq_true rfl) ?_
    refine r_iconst 1 dX5_set_76 (by decide) ?_
    exact r_iret dX5_set_77 rfl (Nat.le_of_ble_eq_true rfl) (Nat.le_of_ble_eq_true rfl) (hok q hq rfl)
  refine r_iload_n dX5_set_0 rfl ?_
  refine r_callS (as := [_]) okX5_isShelf q1627 dX5_set_1 (Nat.le_of_ble_eq_true rfl) rfl (Nat.le_of_ble_eq_true rfl) (Nat.le_of_ble_eq_true rfl) (Nat.le_of_ble_eq_true rfl) (pX5_isShelf ?_)
  refine r_if_ne 14 dX5_set_4 (by decide) (fun _ => ?_) (fun c_ => absurd c_ (b2i_n.mpr (inB_nI (N := 7) (by omega) (by decide))))
  refine r_aload_n dX5_set_14 rfl ?_
  refine r_iload_n dX5_set_15 rfl ?_
  refine r_callV (as := [_]) okX5_isRow bX5 rfl rfl q1641 dX5_set_16 (Nat.le_of_ble_eq_true rfl) rfl (Nat.le_of_ble_eq_true rfl) (Nat.le_of_ble_eq_true rfl) (Nat.le_of_ble_eq_true rfl) (pX5_isRow hj ?_)
  refine r_if_ne 32 dX5_set_19 (by decide) (fun _ => ?_) (fun c_ => absurd c_ (b2i_n.mpr (by rw [hh]; exact inB_nI (N := 4) (by omega) (by decide))))
  refine r_iload_n dX5_set_32 rfl ?_
  refine r_iconst 0 dX5_set_33 (by decide) ?_
  refine r_aload_n dX5_set_34 rfl ?_
  refine r_get bX5 18 (by decide) q1541 dX5_set_35 rfl rfl ?_
  refine r_iload_n dX5_set_38 rfl ?_
  refine r_ialdN dX5_set_39 rfl (by omega) (Nat.le_of_ble_eq_true rfl) ?_
  rw [hl]
  refine r_iconst 1 dX5_set_40 (by decide) ?_
  refine r_isub dX5_set_41 ?_
  refine r_callS (as := [_, _, _]) okX5_within q1630 dX5_set_42 (Nat.le_of_ble_eq_true rfl) rfl (Nat.le_of_ble_eq_true rfl) (Nat.le_of_ble_eq_true rfl) (Nat.le_of_ble_eq_true rfl) (pX5_within ?_)
  refine r_if_ne 55 dX5_set_45 (by decide) (fun c_45 => ?_) (fun c_45 => ?_)
  · exact hgo (b2i_n.mp c_45)
  · refine r_aload_n dX5_set_48 rfl ?_
    refine r_bipush (-2) dX5_set_49 (by decide) ?_
    refine r_callV (as := [_]) okX5_no bX5 rfl rfl q1633 dX5_set_51 (Nat.le_of_ble_eq_true rfl) rfl (Nat.le_of_ble_eq_true rfl) (Nat.le_of_ble_eq_true rfl) (Nat.le_of_ble_eq_true rfl) (pX5_no 2 (by decide) (by decide) ?_)
    exact r_iret dX5_set_54 rfl (Nat.le_of_ble_eq_true rfl) (Nat.le_of_ble_eq_true rfl) (hbad (b2i_0.mp c_45))
theorem pX5_element_no {s i : Int32} (hb : inB s 0 7 = false) (hQ : Q (some (.long 0)) ((mC th kd ow ag lk co sh hs tp hd rl ro rf ol ah tr od tk fo wi ou ge mo my ev se td fr to tn va im lo), r)) : AMet mX5_element 3 0 0 [.ref 0, .int s, .int i] ((mC th kd ow ag lk co sh hs tp hd rl ro rf ol ah tr od tk fo wi ou ge mo my ev se td fr to tn va im lo), r) Q := by
  refine AMet.ofRch rfl rfl (Nat.le_of_ble_eq_true rfl) ?_
  refine r_iload_n dX5_element_0 rfl ?_
  refine r_callS (as := [_]) okX5_isShelf q1627 dX5_element_1 (Nat.le_of_ble_eq_true rfl) rfl (Nat.le_of_ble_eq_true rfl) (Nat.le_of_ble_eq_true rfl) (Nat.le_of_ble_eq_true rfl) (pX5_isShelf ?_)
  refine r_if_eq 45 dX5_element_4 (by decide) (fun _ => ?_) (fun c_ => absurd (b2i_0.mpr hb) c_)
  refine r_lconst 0 dX5_element_45 (by decide) ?_
  exact r_lret dX5_element_46 rfl (Nat.le_of_ble_eq_true rfl) (Nat.le_of_ble_eq_true rfl) (hQ)
theorem pX5_element_nr {j : Nat} {i : Int32} (hj : j < 8) (hb : inB (hd j) 0 4 = false) (hQ : Q (some (.long 0)) ((mC th kd ow ag lk co sh hs tp hd rl ro rf ol ah tr od tk fo wi ou ge mo my ev se td fr to tn va im lo), r)) : AMet mX5_element 3 0 0 [.ref 0, .int (nI j), .int i] ((mC th kd ow ag lk co sh hs tp hd rl ro rf ol ah tr od tk fo wi ou ge mo my ev se td fr to tn va im lo), r) Q := by
  refine AMet.ofRch rfl rfl (Nat.le_of_ble_eq_true rfl) ?_
  refine r_iload_n dX5_element_0 rfl ?_
  refine r_callS (as := [_]) okX5_isShelf q1627 dX5_element_1 (Nat.le_of_ble_eq_true rfl) rfl (Nat.le_of_ble_eq_true rfl) (Nat.le_of_ble_eq_true rfl) (Nat.le_of_ble_eq_true rfl) (pX5_isShelf ?_)
  refine r_if_eq 45 dX5_element_4 (by decide) (fun c_ => absurd c_ (b2i_n.mpr (inB_nI (N := 7) (by omega) (by decide)))) (fun _ => ?_)
  refine r_aload_n dX5_element_7 rfl ?_
  refine r_iload_n dX5_element_8 rfl ?_
  refine r_callV (as := [_]) okX5_isRow bX5 rfl rfl q1641 dX5_element_9 (Nat.le_of_ble_eq_true rfl) rfl (Nat.le_of_ble_eq_true rfl) (Nat.le_of_ble_eq_true rfl) (Nat.le_of_ble_eq_true rfl) (pX5_isRow hj ?_)
  refine r_if_eq 45 dX5_element_12 (by decide) (fun _ => ?_) (fun c_ => absurd (b2i_0.mpr hb) c_)
  refine r_lconst 0 dX5_element_45 (by decide) ?_
  exact r_lret dX5_element_46 rfl (Nat.le_of_ble_eq_true rfl) (Nat.le_of_ble_eq_true rfl) (hQ)
theorem pX5_element_row {j k m : Nat} {i : Int32} (hj : j < 8) (hk : k < 5) (hh : hd j = nI k) (hm : m ≤ 40) (hl : rl j = nI m) (hbad : inB i 0 (nI m - 1) = false → Q (some (.long 0)) ((mC th kd ow ag lk co sh hs tp hd rl ro rf ol ah tr od tk fo wi ou ge mo my ev se td fr to tn va im lo), r)) (hok : ∀ q, q < m → i = nI q → Q (some (.long (ro (40 * j + q)))) ((mC th kd ow ag lk co sh hs tp hd rl ro rf ol ah tr od tk fo wi ou ge mo my ev se td fr to tn va im lo), r)) : AMet mX5_element 3 0 0 [.ref 0, .int (nI j), .int i] ((mC th kd ow ag lk co sh hs tp hd rl ro rf ol ah tr od tk fo wi ou ge mo my ev se td fr to tn va im lo), r) Q := by
  refine AMet.ofRch rfl rfl (Nat.le_of_ble_eq_true rfl) ?_
  have hgo : inB i 0 (nI m - 1) = true → Rch (mX5_element, 3, 0, 0, oQ Q) 0 0 31 [some (.ref 0), some (.int (nI j)), some (.int i)] [] ((mC th kd ow ag lk co sh hs tp hd rl ro rf ol ah tr od tk fo wi ou ge mo my ev se td fr to tn va im lo), r) := by
    intro g
    obtain ⟨q, hq, rfl⟩ := inB_m g (by omega)
    refine r_aload_n dX5_element_31 rfl ?_
    refine r_get bX5 19 (by decide) q1542 dX5_element_32 rfl rfl ?_
    refine r_bipush 40 dX5_element_35 (by decide) ?_
    refine r_iload_n dX5_element_37 rfl ?_
    refine r_imul dX5_element_38 ?_
    rw [show (40 : Int32) * nI j = nI (40 * j) from pk_mul 40 j]
    refine r_iload_n dX5_element_39 rfl ?_
    refine r_iadd dX5_element_40 ?_
    rw [nI_add]
    refine r_laldN dX5_element_41 rfl (by omega) (Nat.le_of_ble_eq_true rfl) ?_
    refine r_goto 46 dX5_element_42 (by decide) ?_
    exact r_lret dX5_element_46 rfl (Nat.le_of_ble_eq_true rfl) (Nat.le_of_ble_eq_true rfl) (hok q hq rfl)
  refine r_iload_n dX5_element_0 rfl ?_
  refine r_callS (as := [_]) okX5_isShelf q1627 dX5_element_1 (Nat.le_of_ble_eq_true rfl) rfl (Nat.le_of_ble_eq_true rfl) (Nat.le_of_ble_eq_true rfl) (Nat.le_of_ble_eq_true rfl) (pX5_isShelf ?_)
  refine r_if_eq 45 dX5_element_4 (by decide) (fun c_ => absurd c_ (b2i_n.mpr (inB_nI (N := 7) (by omega) (by decide)))) (fun _ => ?_)
  refine r_aload_n dX5_element_7 rfl ?_
  refine r_iload_n dX5_element_8 rfl ?_
  refine r_callV (as := [_]) okX5_isRow bX5 rfl rfl q1641 dX5_element_9 (Nat.le_of_ble_eq_true rfl) rfl (Nat.le_of_ble_eq_true rfl) (Nat.le_of_ble_eq_true rfl) (Nat.le_of_ble_eq_true rfl) (pX5_isRow hj ?_)
  refine r_if_eq 45 dX5_element_12 (by decide) (fun c_ => absurd c_ (b2i_n.mpr (by rw [hh]; exact inB_nI (N := 4) (by omega) (by decide)))) (fun _ => ?_)
  refine r_iload_n dX5_element_15 rfl ?_
  refine r_iconst 0 dX5_element_16 (by decide) ?_
  refine r_aload_n dX5_element_17 rfl ?_
  refine r_get bX5 18 (by decide) q1541 dX5_element_18 rfl rfl ?_
  refine r_iload_n dX5_element_21 rfl ?_
  refine r_ialdN dX5_element_22 rfl (by omega) (Nat.le_of_ble_eq_true rfl) ?_
  rw [hl]
  refine r_iconst 1 dX5_element_23 (by decide) ?_
  refine r_isub dX5_element_24 ?_
  refine r_callS (as := [_, _, _]) okX5_within q1630 dX5_element_25 (Nat.le_of_ble_eq_true rfl) rfl (Nat.le_of_ble_eq_true rfl) (Nat.le_of_ble_eq_true rfl) (Nat.le_of_ble_eq_true rfl) (pX5_within ?_)
  refine r_if_eq 45 dX5_element_28 (by decide) (fun c_28 => ?_) (fun c_28 => ?_)
  · refine r_lconst 0 dX5_element_45 (by decide) ?_
    exact r_lret dX5_element_46 rfl (Nat.le_of_ble_eq_true rfl) (Nat.le_of_ble_eq_true rfl) (hbad (b2i_0.mp c_28))
  · exact hgo (b2i_n.mp c_28)
theorem pX5_holds {s : Int32} (hbad : inB s 0 7 = false → Q (some (.int (-1))) ((mC th kd ow ag lk co sh hs tp hd rl ro rf ol ah tr od tk fo wi ou ge mo my ev se td fr to tn va im lo), r)) (hok : ∀ j, j < 8 → s = nI j → Q (some (.int (hd j))) ((mC th kd ow ag lk co sh hs tp hd rl ro rf ol ah tr od tk fo wi ou ge mo my ev se td fr to tn va im lo), r)) : AMet mX5_holds 3 0 0 [.ref 0, .int s] ((mC th kd ow ag lk co sh hs tp hd rl ro rf ol ah tr od tk fo wi ou ge mo my ev se td fr to tn va im lo), r) Q := by
  refine AMet.ofRch rfl rfl (Nat.le_of_ble_eq_true rfl) ?_
  refine r_iload_n dX5_holds_0 rfl ?_
  refine r_callS (as := [_]) okX5_isShelf q1627 dX5_holds_1 (Nat.le_of_ble_eq_true rfl) rfl (Nat.le_of_ble_eq_true rfl) (Nat.le_of_ble_eq_true rfl) (Nat.le_of_ble_eq_true rfl) (pX5_isShelf ?_)
  refine r_if_eq 16 dX5_holds_4 (by decide) (fun c_4 => ?_) (fun c_4 => ?_)
  · refine r_iconst (-1) dX5_holds_16 (by decide) ?_
    exact r_iret dX5_holds_17 rfl (Nat.le_of_ble_eq_true rfl) (Nat.le_of_ble_eq_true rfl) (hbad (b2i_0.mp c_4))
  · obtain ⟨j, hj, rfl⟩ := inB_ex 7 (by decide) (b2i_n.mp c_4)
    refine r_aload_n dX5_holds_7 rfl ?_
    refine r_get bX5 17 (by decide) q1540 dX5_holds_8 rfl rfl ?_
    refine r_iload_n dX5_holds_11 rfl ?_
    refine r_ialdN dX5_holds_12 rfl (by omega) (Nat.le_of_ble_eq_true rfl) ?_
    refine r_goto 17 dX5_holds_13 (by decide) ?_
    exact r_iret dX5_holds_17 rfl (Nat.le_of_ble_eq_true rfl) (Nat.le_of_ble_eq_true rfl) (hok j (by omega) rfl)
theorem pX5_show {s l : Int32} (hbad : (inB s 0 7 && (l == -1 || inB l 0 (my - 1))) = false → Q (some (.int (-2))) ((mC th kd ow ag lk co sh hs tp hd rl ro (upd rf 2 (rf 2 + 1)) ol ah tr od tk fo wi ou ge mo my ev se td fr to tn va im lo), r)) (hnone : ∀ j, j < 8 → s = nI j → l = -1 → Q (some (.int 1)) ((mC th kd ow ag lk co sh hs tp (upd hd j (-1)) rl ro rf ol ah tr od tk fo wi ou ge mo my ev se td fr to tn va im lo), r)) (hok : ∀ j, j < 8 → s = nI j → inB l 0 (my - 1) = true → l ≠ -1 → Q (some (.int 1)) ((mC th kd ow ag lk co sh hs tp (upd hd j (10 + l)) rl ro rf ol ah tr od tk fo wi ou ge mo my ev se td fr to tn va im lo), r)) : AMet mX5_show 3 0 0 [.ref 0, .int s, .int l] ((mC th kd ow ag lk co sh hs tp hd rl ro rf ol ah tr od tk fo wi ou ge mo my ev se td fr to tn va im lo), r) Q := by
  refine AMet.ofRch rfl rfl (Nat.le_of_ble_eq_true rfl) ?_
  refine r_iload_n dX5_show_0 rfl ?_
  refine r_callS (as := [_]) okX5_isShelf q1627 dX5_show_1 (Nat.le_of_ble_eq_true rfl) rfl (Nat.le_of_ble_eq_true rfl) (Nat.le_of_ble_eq_true rfl) (Nat.le_of_ble_eq_true rfl) (pX5_isShelf ?_)
  refine r_if_eq 20 dX5_show_4 (by decide) (fun c_4 => ?_) (fun c_4 => ?_)
  · refine r_aload_n dX5_show_20 rfl ?_
    refine r_bipush (-2) dX5_show_21 (by decide) ?_
    refine r_callV (as := [_]) okX5_no bX5 rfl rfl q1633 dX5_show_23 (Nat.le_of_ble_eq_true rfl) rfl (Nat.le_of_ble_eq_true rfl) (Nat.le_of_ble_eq_true rfl) (Nat.le_of_ble_eq_true rfl) (pX5_no 2 (by decide) (by decide) ?_)
    exact r_iret dX5_show_26 rfl (Nat.le_of_ble_eq_true rfl) (Nat.le_of_ble_eq_true rfl) (hbad (by simp_all [b2i_0]))
  · refine r_iload_n dX5_show_7 rfl ?_
    refine r_iconst (-1) dX5_show_8 (by decide) ?_
    refine r_icmp_eq 27 dX5_show_9 (by decide) (fun c_9 => ?_) (fun c_9 => ?_)
    · obtain ⟨j, hj, rfl⟩ := inB_ex 7 (by decide) (b2i_n.mp c_4)
      by_cases g : l = -1
      · refine r_aload_n dX5_show_27 rfl ?_
        refine r_get bX5 17 (by decide) q1540 dX5_show_28 rfl rfl ?_
        refine r_iload_n dX5_show_31 rfl ?_
        refine r_iload_n dX5_show_32 rfl ?_
        refine r_iconst (-1) dX5_show_33 (by decide) ?_
        refine r_icmp_ne 41 dX5_show_34 (by decide) (fun c_ => absurd (g) c_) (fun _ => ?_)
        refine r_iconst (-1) dX5_show_37 (by decide) ?_
        refine r_goto 45 dX5_show_38 (by decide) ?_
        refine r_iastN dX5_show_45 rfl (by omega) (Nat.le_of_ble_eq_true rfl) ?_
        refine r_iconst 1 dX5_show_46 (by decide) ?_
        exact r_iret dX5_show_47 rfl (Nat.le_of_ble_eq_true rfl) (Nat.le_of_ble_eq_true rfl) (hnone j (by omega) rfl g)
      · refine r_aload_n dX5_show_27 rfl ?_
        refine r_get bX5 17 (by decide) q1540 dX5_show_28 rfl rfl ?_
        refine r_iload_n dX5_show_31 rfl ?_
        refine r_iload_n dX5_show_32 rfl ?_
        refine r_iconst (-1) dX5_show_33 (by decide) ?_
        refine r_icmp_ne 41 dX5_show_34 (by decide) (fun _ => ?_) (fun c_ => absurd c_ (g))
        refine r_bipush 10 dX5_show_41 (by decide) ?_
        refine r_iload_n dX5_show_43 rfl ?_
        refine r_iadd dX5_show_44 ?_
        refine r_iastN dX5_show_45 rfl (by omega) (Nat.le_of_ble_eq_true rfl) ?_
        refine r_iconst 1 dX5_show_46 (by decide) ?_
        exact r_iret dX5_show_47 rfl (Nat.le_of_ble_eq_true rfl) (Nat.le_of_ble_eq_true rfl) (hok j (by omega) rfl (b2i_n.mp (by first | exact c_17 | exact absurd c_9 g)) g)
    · refine r_aload_n dX5_show_12 rfl ?_
      refine r_iload_n dX5_show_13 rfl ?_
      refine r_callV (as := [_]) okX5_isLooker bX5 rfl rfl q1668 dX5_show_14 (Nat.le_of_ble_eq_true rfl) rfl (Nat.le_of_ble_eq_true rfl) (Nat.le_of_ble_eq_true rfl) (Nat.le_of_ble_eq_true rfl) (pX5_isLooker ?_)
      refine r_if_ne 27 dX5_show_17 (by decide) (fun c_17 => ?_) (fun c_17 => ?_)
      · obtain ⟨j, hj, rfl⟩ := inB_ex 7 (by decide) (b2i_n.mp c_4)
        by_cases g : l = -1
        · refine r_aload_n dX5_show_27 rfl ?_
          refine r_get bX5 17 (by decide) q1540 dX5_show_28 rfl rfl ?_
          refine r_iload_n dX5_show_31 rfl ?_
          refine r_iload_n dX5_show_32 rfl ?_
          refine r_iconst (-1) dX5_show_33 (by decide) ?_
          refine r_icmp_ne 41 dX5_show_34 (by decide) (fun c_ => absurd (g) c_) (fun _ => ?_)
          refine r_iconst (-1) dX5_show_37 (by decide) ?_
          refine r_goto 45 dX5_show_38 (by decide) ?_
          refine r_iastN dX5_show_45 rfl (by omega) (Nat.le_of_ble_eq_true rfl) ?_
          refine r_iconst 1 dX5_show_46 (by decide) ?_
          exact r_iret dX5_show_47 rfl (Nat.le_of_ble_eq_true rfl) (Nat.le_of_ble_eq_true rfl) (hnone j (by omega) rfl g)
        · refine r_aload_n dX5_show_27 rfl ?_
          refine r_get bX5 17 (by decide) q1540 dX5_show_28 rfl rfl ?_
          refine r_iload_n dX5_show_31 rfl ?_
          refine r_iload_n dX5_show_32 rfl ?_
          refine r_iconst (-1) dX5_show_33 (by decide) ?_
          refine r_icmp_ne 41 dX5_show_34 (by decide) (fun _ => ?_) (fun c_ => absurd c_ (g))
          refine r_bipush 10 dX5_show_41 (by decide) ?_
          refine r_iload_n dX5_show_43 rfl ?_
          refine r_iadd dX5_show_44 ?_
          refine r_iastN dX5_show_45 rfl (by omega) (Nat.le_of_ble_eq_true rfl) ?_
          refine r_iconst 1 dX5_show_46 (by decide) ?_
          exact r_iret dX5_show_47 rfl (Nat.le_of_ble_eq_true rfl) (Nat.le_of_ble_eq_true rfl) (hok j (by omega) rfl (b2i_n.mp (by first | exact c_17 | exact absurd c_9 g)) g)
      · refine r_aload_n dX5_show_20 rfl ?_
        refine r_bipush (-2) dX5_show_21 (by decide) ?_
        refine r_callV (as := [_]) okX5_no bX5 rfl rfl q1633 dX5_show_23 (Nat.le_of_ble_eq_true rfl) rfl (Nat.le_of_ble_eq_true rfl) (Nat.le_of_ble_eq_true rfl) (Nat.le_of_ble_eq_true rfl) (pX5_no 2 (by decide) (by decide) ?_)
        exact r_iret dX5_show_26 rfl (Nat.le_of_ble_eq_true rfl) (Nat.le_of_ble_eq_true rfl) (hbad (by simp_all [b2i_0]))
theorem pX5_place {p s : Int32} (hbad : (inB p 0 11 && inB s (-1) 7) = false → Q (some (.int (-2))) ((mC th kd ow ag lk co sh hs tp hd rl ro (upd rf 2 (rf 2 + 1)) ol ah tr od tk fo wi ou ge mo my ev se td fr to tn va im lo), r)) (hok : ∀ j, j < 12 → p = nI j → inB s (-1) 7 = true → Q (some (.int (th j))) ((mC (upd th j s) kd ow ag lk co sh hs tp hd rl ro rf ol ah tr od tk fo wi ou ge mo my ev se td fr to tn va im lo), r)) : AMet mX5_place 3 0 0 [.ref 0, .int p, .int s] ((mC th kd ow ag lk co sh hs tp hd rl ro rf ol ah tr od tk fo wi ou ge mo my ev se td fr to tn va im lo), r) Q := by
  refine AMet.ofRch rfl rfl (Nat.le_of_ble_eq_true rfl) ?_
  refine r_iload_n dX5_place_0 rfl ?_
  refine r_callS (as := [_]) okX5_isPlace q1730 dX5_place_1 (Nat.le_of_ble_eq_true rfl) rfl (Nat.le_of_ble_eq_true rfl) (Nat.le_of_ble_eq_true rfl) (Nat.le_of_ble_eq_true rfl) (pX5_isPlace ?_)
  refine r_if_eq 17 dX5_place_4 (by decide) (fun c_4 => ?_) (fun c_4 => ?_)
  · refine r_aload_n dX5_place_17 rfl ?_
    refine r_bipush (-2) dX5_place_18 (by decide) ?_
    refine r_callV (as := [_]) okX5_no bX5 rfl rfl q1633 dX5_place_20 (Nat.le_of_ble_eq_true rfl) rfl (Nat.le_of_ble_eq_true rfl) (Nat.le_of_ble_eq_true rfl) (Nat.le_of_ble_eq_true rfl) (pX5_no 2 (by decide) (by decide) ?_)
    exact r_iret dX5_place_23 rfl (Nat.le_of_ble_eq_true rfl) (Nat.le_of_ble_eq_true rfl) (hbad (by simp_all [b2i_0]))
  · refine r_iload_n dX5_place_7 rfl ?_
    refine r_iconst (-1) dX5_place_8 (by decide) ?_
    refine r_bipush 7 dX5_place_9 (by decide) ?_
    refine r_callS (as := [_, _, _]) okX5_within q1630 dX5_place_11 (Nat.le_of_ble_eq_true rfl) rfl (Nat.le_of_ble_eq_true rfl) (Nat.le_of_ble_eq_true rfl) (Nat.le_of_ble_eq_true rfl) (pX5_within ?_)
    refine r_if_ne 24 dX5_place_14 (by decide) (fun c_14 => ?_) (fun c_14 => ?_)
    · obtain ⟨j, hj, rfl⟩ := inB_ex 11 (by decide) (b2i_n.mp c_4)
      refine r_aload_n dX5_place_24 rfl ?_
      refine r_get bX5 0 (by decide) q1523 dX5_place_25 rfl rfl ?_
      refine r_iload_n dX5_place_28 rfl ?_
      refine r_ialdN dX5_place_29 rfl (by omega) (Nat.le_of_ble_eq_true rfl) ?_
      refine r_istore_n dX5_place_30 (Nat.le_of_ble_eq_true rfl) ?_
      refine r_aload_n dX5_place_31 rfl ?_
      refine r_get bX5 0 (by decide) q1523 dX5_place_32 rfl rfl ?_
      refine r_iload_n dX5_place_35 rfl ?_
      refine r_iload_n dX5_place_36 rfl ?_
      refine r_iastN dX5_place_37 rfl (by omega) (Nat.le_of_ble_eq_true rfl) ?_
      refine r_iload_n dX5_place_38 rfl ?_
      exact r_iret dX5_place_39 rfl (Nat.le_of_ble_eq_true rfl) (Nat.le_of_ble_eq_true rfl) (hok j (by omega) rfl (b2i_n.mp c_14))
    · refine r_aload_n dX5_place_17 rfl ?_
      refine r_bipush (-2) dX5_place_18 (by decide) ?_
      refine r_callV (as := [_]) okX5_no bX5 rfl rfl q1633 dX5_place_20 (Nat.le_of_ble_eq_true rfl) rfl (Nat.le_of_ble_eq_true rfl) (Nat.le_of_ble_eq_true rfl) (Nat.le_of_ble_eq_true rfl) (pX5_no 2 (by decide) (by decide) ?_)
      exact r_iret dX5_place_23 rfl (Nat.le_of_ble_eq_true rfl) (Nat.le_of_ble_eq_true rfl) (hbad (by simp_all [b2i_0]))
theorem pX5_sortAt {p : Int32} (hbad : inB p 0 11 = false → Q (some (.int (-2))) ((mC th kd ow ag lk co sh hs tp hd rl ro (upd rf 2 (rf 2 + 1)) ol ah tr od tk fo wi ou ge mo my ev se td fr to tn va im lo), r)) (hok : ∀ j, j < 12 → p = nI j → Q (some (.int (th j))) ((mC th kd ow ag lk co sh hs tp hd rl ro rf ol ah tr od tk fo wi ou ge mo my ev se td fr to tn va im lo), r)) : AMet mX5_sortAt 3 0 0 [.ref 0, .int p] ((mC th kd ow ag lk co sh hs tp hd rl ro rf ol ah tr od tk fo wi ou ge mo my ev se td fr to tn va im lo), r) Q := by
  refine AMet.ofRch rfl rfl (Nat.le_of_ble_eq_true rfl) ?_
  refine r_iload_n dX5_sortAt_0 rfl ?_
  refine r_callS (as := [_]) okX5_isPlace q1730 dX5_sortAt_1 (Nat.le_of_ble_eq_true rfl) rfl (Nat.le_of_ble_eq_true rfl) (Nat.le_of_ble_eq_true rfl) (Nat.le_of_ble_eq_true rfl) (pX5_isPlace ?_)
  refine r_if_eq 16 dX5_sortAt_4 (by decide) (fun c_4 => ?_) (fun c_4 => ?_)
  · refine r_aload_n dX5_sortAt_16 rfl ?_
    refine r_bipush (-2) dX5_sortAt_17 (by decide) ?_
    refine r_callV (as := [_]) okX5_no bX5 rfl rfl q1633 dX5_sortAt_19 (Nat.le_of_ble_eq_true rfl) rfl (Nat.le_of_ble_eq_true rfl) (Nat.le_of_ble_eq_true rfl) (Nat.le_of_ble_eq_true rfl) (pX5_no 2 (by decide) (by decide) ?_)
    exact r_iret dX5_sortAt_22 rfl (Nat.le_of_ble_eq_true rfl) (Nat.le_of_ble_eq_true rfl) (hbad (b2i_0.mp c_4))
  · obtain ⟨j, hj, rfl⟩ := inB_ex 11 (by decide) (b2i_n.mp c_4)
    refine r_aload_n dX5_sortAt_7 rfl ?_
    refine r_get bX5 0 (by decide) q1523 dX5_sortAt_8 rfl rfl ?_
    refine r_iload_n dX5_sortAt_11 rfl ?_
    refine r_ialdN dX5_sortAt_12 rfl (by omega) (Nat.le_of_ble_eq_true rfl) ?_
    refine r_goto 22 dX5_sortAt_13 (by decide) ?_
    exact r_iret dX5_sortAt_22 rfl (Nat.le_of_ble_eq_true rfl) (Nat.le_of_ble_eq_true rfl) (hok j (by omega) rfl)
theorem pX5_wipe (hQ : Q (some (.int td)) ((mC th kd ow ag lk co sh hs tp hd rl ro rf ol ah tr od tk fo wi ou ge mo my ev se (0) fr to tn va im lo), r)) : AMet mX5_wipe 1 0 0 [.ref 0] ((mC th kd ow ag lk co sh hs tp hd rl ro rf ol ah tr od tk fo wi ou ge mo my ev se td fr to tn va im lo), r) Q := by
  refine AMet.ofRch rfl rfl (Nat.le_of_ble_eq_true rfl) ?_
  refine r_aload_n dX5_wipe_0 rfl ?_
  refine r_get bX5 11 (by decide) q1534 dX5_wipe_1 rfl rfl ?_
  refine r_istore_n dX5_wipe_4 (Nat.le_of_ble_eq_true rfl) ?_
  refine r_aload_n dX5_wipe_5 rfl ?_
  refine r_iconst 0 dX5_wipe_6 (by decide) ?_
  refine r_put bX5 11 (by decide) rfl q1534 dX5_wipe_7 rfl rfl rfl (Nat.le_of_ble_eq_true rfl) ?_
  refine r_iload_n dX5_wipe_10 rfl ?_
  exact r_iret dX5_wipe_11 rfl (Nat.le_of_ble_eq_true rfl) (Nat.le_of_ble_eq_true rfl) (hQ)
end MM
