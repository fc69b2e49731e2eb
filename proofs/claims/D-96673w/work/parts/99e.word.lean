set_option maxRecDepth 100000
/-! String.length and charAt of a constant; the reference: isWord -/
theorem pJ5_coder_K {h : AHp} {Q : Option Value → AHp → Prop} {i n : Nat} {b : List Int32} {hv : Int32} (k : Sk i n b hv) (hQ : Q (some (.int 0)) h) : AMet mJ5_coder 1 0 0 [.ref (8 * (i + 1) + 4)] h Q := by
  refine AMet.ofRch rfl rfl (Nat.le_of_ble_eq_true rfl) ?_
  refine r_getsC [false, false, false, false, false, false, false, true, false, false] rfl q743 (lw_all_tbl q94) q853 dJ5_coder_0 ?_
  refine r_if_eq 13 dJ5_coder_3 (by decide) (fun c_ => absurd c_ (by decide)) (fun _ => ?_)
  refine r_aload_n dJ5_coder_6 rfl ?_
  refine r_getKc k q962 dJ5_coder_7 ?_
  refine r_goto 14 dJ5_coder_10 (by decide) ?_
  exact r_zret (ty := .byte) dJ5_coder_14 rfl rfl (Nat.le_of_ble_eq_true rfl) (Nat.le_of_ble_eq_true rfl) hQ
theorem pJ5_isLatin1_K {h : AHp} {Q : Option Value → AHp → Prop} {i n : Nat} {b : List Int32} {hv : Int32} (k : Sk i n b hv) (hQ : Q (some (.int 1)) h) : AMet mJ5_isLatin1 1 0 0 [.ref (8 * (i + 1) + 4)] h Q := by
  refine AMet.ofRch rfl rfl (Nat.le_of_ble_eq_true rfl) ?_
  refine r_getsC [false, false, false, false, false, false, false, true, false, false] rfl q743 (lw_all_tbl q94) q853 dJ5_isLatin1_0 ?_
  refine r_if_eq 17 dJ5_isLatin1_3 (by decide) (fun c_ => absurd c_ (by decide)) (fun _ => ?_)
  refine r_aload_n dJ5_isLatin1_6 rfl ?_
  refine r_getKc k q962 dJ5_isLatin1_7 ?_
  refine r_if_ne 17 dJ5_isLatin1_10 (by decide) (fun c_ => absurd (rfl) c_) (fun _ => ?_)
  refine r_iconst 1 dJ5_isLatin1_13 (by decide) ?_
  refine r_goto 18 dJ5_isLatin1_14 (by decide) ?_
  exact r_zret (ty := .boolean) dJ5_isLatin1_18 rfl (rfl) (Nat.le_of_ble_eq_true rfl) (Nat.le_of_ble_eq_true rfl) (hQ)
theorem pJ5_length_K {h : AHp} {Q : Option Value → AHp → Prop} {i n : Nat} {b : List Int32} {hv : Int32} (k : Sk i n b hv) (hQ : Q (some (.int (nI n))) h) : AMet mJ5_length 2 0 0 [.ref (8 * (i + 1) + 4)] h Q := by
  refine AMet.ofRch rfl rfl (Nat.le_of_ble_eq_true rfl) ?_
  refine r_aload_n dJ5_length_0 rfl ?_
  refine r_getKv k q961 dJ5_length_1 ?_
  refine r_alenK k dJ5_length_4 ?_
  refine r_aload_n dJ5_length_5 rfl ?_
  refine r_callK (as := []) okJ5_coder k rfl q849 dJ5_length_6 (Nat.le_of_ble_eq_true rfl) rfl (Nat.le_of_ble_eq_true rfl) (Nat.le_of_ble_eq_true rfl) (Nat.le_of_ble_eq_true rfl) (pJ5_coder_K k ?_)
  refine r_ishr dJ5_length_9 ?_
  rw [sb_shr0]
  exact r_iret dJ5_length_10 rfl (Nat.le_of_ble_eq_true rfl) (Nat.le_of_ble_eq_true rfl) (hQ)
theorem pJ16_checkIndex {h : AHp} {Q : Option Value → AHp → Prop} {j n : Nat} {v : Value} (hv : v = .null ∨ v = .ref (8 * (30 + 1) + 4)) (hj : j < n) (hn : n < 1000) (hQ : Q (some (.int (nI j))) h) : AMet mJ16_checkIndex 1 0 0 [.int (nI j), .int (nI n), v] h Q := by
  rcases hv with rfl | rfl
  · refine AMet.ofRch rfl rfl (Nat.le_of_ble_eq_true rfl) ?_
    refine r_iload_n dJ16_checkIndex_0 rfl ?_
    refine r_if_lt 9 dJ16_checkIndex_1 (by decide) (fun c_ => absurd c_ (nI_pos (by omega))) (fun _ => ?_)
    refine r_iload_n dJ16_checkIndex_4 rfl ?_
    refine r_iload_n dJ16_checkIndex_5 rfl ?_
    refine r_icmp_lt 16 dJ16_checkIndex_6 (by decide) (fun _ => ?_) (fun c_ => absurd (nI_lt hj (by omega)) c_)
    refine r_iload_n dJ16_checkIndex_16 rfl ?_
    exact r_iret dJ16_checkIndex_17 rfl (Nat.le_of_ble_eq_true rfl) (Nat.le_of_ble_eq_true rfl) (hQ)
  · refine AMet.ofRch rfl rfl (Nat.le_of_ble_eq_true rfl) ?_
    refine r_iload_n dJ16_checkIndex_0 rfl ?_
    refine r_if_lt 9 dJ16_checkIndex_1 (by decide) (fun c_ => absurd c_ (nI_pos (by omega))) (fun _ => ?_)
    refine r_iload_n dJ16_checkIndex_4 rfl ?_
    refine r_iload_n dJ16_checkIndex_5 rfl ?_
    refine r_icmp_lt 16 dJ16_checkIndex_6 (by decide) (fun _ => ?_) (fun c_ => absurd (nI_lt hj (by omega)) c_)
    refine r_iload_n dJ16_checkIndex_16 rfl ?_
    exact r_iret dJ16_checkIndex_17 rfl (Nat.le_of_ble_eq_true rfl) (Nat.le_of_ble_eq_true rfl) (hQ)
theorem pJ5_checkIndex {h : AHp} {Q : Option Value → AHp → Prop} {j n : Nat} (hj : j < n) (hn : n < 1000) (hQ : Q none h) : AMet mJ5_checkIndex 2 0 0 [.int (nI j), .int (nI n)] h Q := by
  refine AMet.ofRch rfl rfl (Nat.le_of_ble_eq_true rfl) ?_
  refine r_iload_n dJ5_checkIndex_0 rfl ?_
  refine r_iload_n dJ5_checkIndex_1 rfl ?_
  refine r_getsR 30 [false, false, false, false, false, false, false, true, false, true] rfl rfl q832 (lw_all_tbl q113) q831 dJ5_checkIndex_2 (fun v hv => ?_)
  refine r_callS (as := [_, _, _]) okJ16_checkIndex q1066 dJ5_checkIndex_5 (Nat.le_of_ble_eq_true rfl) rfl (Nat.le_of_ble_eq_true rfl) (Nat.le_of_ble_eq_true rfl) (Nat.le_of_ble_eq_true rfl) (pJ16_checkIndex hv hj hn ?_)
  refine r_pop dJ5_checkIndex_8 rfl ?_
  exact r_vret dJ5_checkIndex_9 rfl (Nat.le_of_ble_eq_true rfl) (Nat.le_of_ble_eq_true rfl) (hQ)
def chr8 (x : Int32) : Int32 := ((x &&& 255).toUInt32 % 65536).toInt32
theorem pJ17_charAt_K {h : AHp} {Q : Option Value → AHp → Prop} {i n j : Nat} {b : List Int32} {hv : Int32} (k : Sk i n b hv) (hj : j < n) (hn : n < 1000) (hb : chr8 (b.getD j 0) = b.getD j 0) (hc : narrow .char (.int (b.getD j 0)) = .int (b.getD j 0)) (hQ : Q (some (.int (b.getD j 0))) h) : AMet mJ17_charAt 3 0 0 [.ref (8 * (i + 15) + 4), .int (nI j)] h Q := by
  refine AMet.ofRch rfl rfl (Nat.le_of_ble_eq_true rfl) ?_
  refine r_iload_n dJ17_charAt_0 rfl ?_
  refine r_aload_n dJ17_charAt_1 rfl ?_
  refine r_alenK k dJ17_charAt_2 ?_
  refine r_callS (as := [_, _]) okJ5_checkIndex q1795 dJ17_charAt_3 (Nat.le_of_ble_eq_true rfl) rfl (Nat.le_of_ble_eq_true rfl) (Nat.le_of_ble_eq_true rfl) (Nat.le_of_ble_eq_true rfl) (pJ5_checkIndex hj hn ?_)
  refine r_aload_n dJ17_charAt_6 rfl ?_
  refine r_iload_n dJ17_charAt_7 rfl ?_
  refine r_baldK k hj dJ17_charAt_8 ?_
  refine r_sipush 255 dJ17_charAt_9 (by decide) ?_
  refine r_iand dJ17_charAt_12 ?_
  refine r_i2c dJ17_charAt_13 ?_
  rw [show ((b.getD j 0 &&& 255).toUInt32 % 65536).toInt32 = b.getD j 0 from hb]
  exact r_zret (ty := .char) dJ17_charAt_14 rfl hc (Nat.le_of_ble_eq_true rfl) (Nat.le_of_ble_eq_true rfl) hQ
theorem pJ5_charAt_K {h : AHp} {Q : Option Value → AHp → Prop} {i n j : Nat} {b : List Int32} {hv : Int32} (k : Sk i n b hv) (hj : j < n) (hn : n < 1000) (hb : chr8 (b.getD j 0) = b.getD j 0) (hc : narrow .char (.int (b.getD j 0)) = .int (b.getD j 0)) (hQ : Q (some (.int (b.getD j 0))) h) : AMet mJ5_charAt 4 0 0 [.ref (8 * (i + 1) + 4), .int (nI j)] h Q := by
  refine AMet.ofRch rfl rfl (Nat.le_of_ble_eq_true rfl) ?_
  refine r_aload_n dJ5_charAt_0 rfl ?_
  refine r_callK (as := []) okJ5_isLatin1 k rfl q1103 dJ5_charAt_1 (Nat.le_of_ble_eq_true rfl) rfl (Nat.le_of_ble_eq_true rfl) (Nat.le_of_ble_eq_true rfl) (Nat.le_of_ble_eq_true rfl) (pJ5_isLatin1_K k ?_)
  refine r_if_eq 16 dJ5_charAt_4 (by decide) (fun c_ => absurd c_ (by decide)) (fun _ => ?_)
  refine r_aload_n dJ5_charAt_7 rfl ?_
  refine r_getKv k q961 dJ5_charAt_8 ?_
  refine r_iload_n dJ5_charAt_11 rfl ?_
  refine r_callS (as := [_, _]) okJ17_charAt q1792 dJ5_charAt_12 (Nat.le_of_ble_eq_true rfl) rfl (Nat.le_of_ble_eq_true rfl) (Nat.le_of_ble_eq_true rfl) (Nat.le_of_ble_eq_true rfl) (pJ17_charAt_K k hj hn hb hc ?_)
  exact r_zret (ty := .char) dJ5_charAt_15 rfl hc (Nat.le_of_ble_eq_true rfl) (Nat.le_of_ble_eq_true rfl) hQ
/-- a text stands there -/
def eqT (tp : Nat → Int32) (b : List Int32) (f : Nat) : Nat → Nat → Bool
  | 0, _ => true
  | q + 1, j => tp (f + j) == b.getD j 0 && eqT tp b f q (j + 1)
theorem eqT_s (tp : Nat → Int32) (b : List Int32) (f q j : Nat) : eqT tp b f (q + 1) j = (tp (f + j) == b.getD j 0 && eqT tp b f q (j + 1)) := rfl
/-- the token is that word -/
def wdB (tp : Nat → Int32) (b : List Int32) (f e : Nat) (tn : Int32) : Bool := tn == 119 && (e - f == b.length && eqT tp b f b.length 0)
/-- plain signs -/
def Chs (b : List Int32) : Prop := b.length < 1000 ∧ ∀ j, j < b.length → chr8 (b.getD j 0) = b.getD j 0 ∧ narrow .char (.int (b.getD j 0)) = .int (b.getD j 0)
theorem chs_of {b : List Int32} (h0 : b.length < 1000) (h : ∀ x ∈ b, chr8 x = x) : Chs b := by
  refine ⟨h0, fun j hj => ?_⟩
  have hx : b.getD j 0 ∈ b := by
    rw [List.getD_eq_getElem?_getD, List.getElem?_eq_getElem hj]
    exact List.getElem_mem hj
  have h1 := h _ hx
  refine ⟨h1, ?_⟩
  show Value.int (((b.getD j 0).toUInt32 % 65536).toInt32) = _
  rw [← h1]
  exact congrArg Value.int (by unfold chr8; rw [show (((b.getD j 0 &&& 255).toUInt32 % 65536).toInt32).toUInt32 = (b.getD j 0 &&& 255).toUInt32 % 65536 from rfl]; exact congrArg UInt32.toInt32 (UInt32.toNat_inj.mp (by simp [UInt32.toNat_mod])))
section MM
variable {th kd ow ag lk co sh hs tp hd rl : Nat → Int32} {ro : Nat → Int64} {rf ol ah tr od tk fo wi ou ge mo : Nat → Int32} {my ev se td fr to tn va im lo : Int32} {r : List AC × List AC × List AC} {Q : Option Value → AHp → Prop}
theorem pX5_isWord {i : Nat} {b : List Int32} {hv : Int32} {f e : Nat} (k : Sk i b.length b hv) (hb : Chs b) (hfe : f ≤ e) (he : e ≤ 250) (hQ : Q (some (.int (b2i (wdB tp b f e tn)))) ((mC th kd ow ag lk co sh hs tp hd rl ro rf ol ah tr od tk fo wi ou ge mo my ev se td (nI f) (nI e) tn va im lo), r)) : AMet mX5_isWord 5 0 0 [.ref 0, .ref (8 * (i + 1) + 4)] ((mC th kd ow ag lk co sh hs tp hd rl ro rf ol ah tr od tk fo wi ou ge mo my ev se td (nI f) (nI e) tn va im lo), r) Q := by
  refine AMet.ofRch rfl rfl (Nat.le_of_ble_eq_true rfl) ?_
  have hl := hb.1
  unfold wdB at hQ
  by_cases g1 : tn = 119
  · have e1 : nI e - nI f = nI (e - f) := pk_sub hfe
    by_cases g2 : e - f = b.length
    · rw [show (tn == 119 && (e - f == b.length && eqT tp b f b.length 0)) = eqT tp b f b.length 0 by rw [show (tn == 119) = true by simpa using g1, show (e - f == b.length) = true by simpa using g2]; simp] at hQ
      refine r_aload_n dX5_isWord_0 rfl ?_
      refine r_get bX5 15 (by decide) q1538 dX5_isWord_1 rfl rfl ?_
      refine r_bipush 119 dX5_isWord_4 (by decide) ?_
      refine r_icmp_ne 25 dX5_isWord_6 (by decide) (fun c_ => absurd (g1) c_) (fun _ => ?_)
      refine r_aload_n dX5_isWord_9 rfl ?_
      refine r_get bX5 14 (by decide) q1537 dX5_isWord_10 rfl rfl ?_
      refine r_aload_n dX5_isWord_13 rfl ?_
      refine r_get bX5 13 (by decide) q1536 dX5_isWord_14 rfl rfl ?_
      refine r_isub dX5_isWord_17 ?_
      refine r_aload_n dX5_isWord_18 rfl ?_
      refine r_callK (as := []) okJ5_length k rfl q1787 dX5_isWord_19 (Nat.le_of_ble_eq_true rfl) rfl (Nat.le_of_ble_eq_true rfl) (Nat.le_of_ble_eq_true rfl) (Nat.le_of_ble_eq_true rfl) (pJ5_length_K k ?_)
      refine r_icmp_eq 27 dX5_isWord_22 (by decide) (fun _ => ?_) (fun c_ => absurd (by rw [e1, g2]) c_)
      refine r_iconst 0 dX5_isWord_27 (by decide) ?_
      refine r_istore_n dX5_isWord_28 (Nat.le_of_ble_eq_true rfl) ?_
      refine loopUp (N := b.length) (P := fun j => eqT tp b f b.length 0 = eqT tp b f (b.length - j) j → Rch (mX5_isWord, 5, 0, 0, oQ Q) 0 0 29 [some (.ref 0), some (.ref (8 * (i + 1) + 4)), some (.int (nI j))] [] ((mC th kd ow ag lk co sh hs tp hd rl ro rf ol ah tr od tk fo wi ou ge mo my ev se td (nI f) (nI e) tn va im lo), r)) ?_ ?_ rfl
      · intro e2
        rw [e2, Nat.sub_self] at hQ
        refine r_iload_n dX5_isWord_29 rfl ?_
        refine r_aload_n dX5_isWord_30 rfl ?_
        refine r_callK (as := []) okJ5_length k rfl q1787 dX5_isWord_31 (Nat.le_of_ble_eq_true rfl) rfl (Nat.le_of_ble_eq_true rfl) (Nat.le_of_ble_eq_true rfl) (Nat.le_of_ble_eq_true rfl) (pJ5_length_K k ?_)
        refine r_icmp_ge 64 dX5_isWord_34 (by decide) (fun _ => ?_) (fun c_ => absurd (geT _) c_)
        refine r_iconst 1 dX5_isWord_64 (by decide) ?_
        exact r_zret (ty := .boolean) dX5_isWord_65 rfl (rfl) (Nat.le_of_ble_eq_true rfl) (Nat.le_of_ble_eq_true rfl) (hQ)
      · intro j hj ih e2
        rw [show b.length - j = (b.length - (j + 1)) + 1 by omega, eqT_s] at e2
        have e3 : nI f + nI j = nI (f + j) := nI_add f j
        by_cases g3 : tp (f + j) = b.getD j 0
        · rw [show (tp (f + j) == b.getD j 0) = true by simpa using g3, Bool.true_and] at e2
          refine r_iload_n dX5_isWord_29 rfl ?_
          refine r_aload_n dX5_isWord_30 rfl ?_
          refine r_callK (as := []) okJ5_length k rfl q1787 dX5_isWord_31 (Nat.le_of_ble_eq_true rfl) rfl (Nat.le_of_ble_eq_true rfl) (Nat.le_of_ble_eq_true rfl) (Nat.le_of_ble_eq_true rfl) (pJ5_length_K k ?_)
          refine r_icmp_ge 64 dX5_isWord_34 (by decide) (fun c_ => absurd c_ (geF hj (by omega))) (fun _ => ?_)
          refine r_aload_n dX5_isWord_37 rfl ?_
          refine r_get bX5 12 (by decide) q1535 dX5_isWord_38 rfl rfl ?_
          refine r_aload_n dX5_isWord_41 rfl ?_
          refine r_get bX5 13 (by decide) q1536 dX5_isWord_42 rfl rfl ?_
          refine r_iload_n dX5_isWord_45 rfl ?_
          refine r_iadd dX5_isWord_46 ?_
          rw [e3]
          refine r_ialdN dX5_isWord_47 rfl (by omega) (Nat.le_of_ble_eq_true rfl) ?_
          refine r_aload_n dX5_isWord_48 rfl ?_
          refine r_iload_n dX5_isWord_49 rfl ?_
          refine r_callK (as := [_]) okJ5_charAt k rfl q1788 dX5_isWord_50 (Nat.le_of_ble_eq_true rfl) rfl (Nat.le_of_ble_eq_true rfl) (Nat.le_of_ble_eq_true rfl) (Nat.le_of_ble_eq_true rfl) (pJ5_charAt_K k hj hl (hb.2 j hj).1 (hb.2 j hj).2 ?_)
          refine r_icmp_eq 58 dX5_isWord_53 (by decide) (fun _ => ?_) (fun c_ => absurd (g3) c_)
          refine r_iincV dX5_isWord_58 rfl (Nat.le_of_ble_eq_true rfl) (incN _) ?_
          refine r_goto 29 dX5_isWord_61 (by decide) ?_
          exact ih e2
        · rw [show (tp (f + j) == b.getD j 0) = false by simpa using g3, Bool.false_and] at e2
          rw [e2] at hQ
          refine r_iload_n dX5_isWord_29 rfl ?_
          refine r_aload_n dX5_isWord_30 rfl ?_
          refine r_callK (as := []) okJ5_length k rfl q1787 dX5_isWord_31 (Nat.le_of_ble_eq_true rfl) rfl (Nat.le_of_ble_eq_true rfl) (Nat.le_of_ble_eq_true rfl) (Nat.le_of_ble_eq_true rfl) (pJ5_length_K k ?_)
          refine r_icmp_ge 64 dX5_isWord_34 (by decide) (fun c_ => absurd c_ (geF hj (by omega))) (fun _ => ?_)
          refine r_aload_n dX5_isWord_37 rfl ?_
          refine r_get bX5 12 (by decide) q1535 dX5_isWord_38 rfl rfl ?_
          refine r_aload_n dX5_isWord_41 rfl ?_
          refine r_get bX5 13 (by decide) q1536 dX5_isWord_42 rfl rfl ?_
          refine r_iload_n dX5_isWord_45 rfl ?_
          refine r_iadd dX5_isWord_46 ?_
          rw [e3]
          refine r_ialdN dX5_isWord_47 rfl (by omega) (Nat.le_of_ble_eq_true rfl) ?_
          refine r_aload_n dX5_isWord_48 rfl ?_
          refine r_iload_n dX5_isWord_49 rfl ?_
          refine r_callK (as := [_]) okJ5_charAt k rfl q1788 dX5_isWord_50 (Nat.le_of_ble_eq_true rfl) rfl (Nat.le_of_ble_eq_true rfl) (Nat.le_of_ble_eq_true rfl) (Nat.le_of_ble_eq_true rfl) (pJ5_charAt_K k hj hl (hb.2 j hj).1 (hb.2 j hj).2 ?_)
          refine r_icmp_eq 58 dX5_isWord_53 (by decide) (fun c_ => absurd c_ (g3)) (fun _ => ?_)
          refine r_iconst 0 dX5_isWord_56 (by decide) ?_
          exact r_zret (ty := .boolean) dX5_isWord_57 rfl (rfl) (Nat.le_of_ble_eq_true rfl) (Nat.le_of_ble_eq_true rfl) (hQ)
    · rw [show (tn == 119 && (e - f == b.length && eqT tp b f b.length 0)) = false by rw [show (e - f == b.length) = false by simpa using g2]; simp] at hQ
      refine r_aload_n dX5_isWord_0 rfl ?_
      refine r_get bX5 15 (by decide) q1538 dX5_isWord_1 rfl rfl ?_
      refine r_bipush 119 dX5_isWord_4 (by decide) ?_
      refine r_icmp_ne 25 dX5_isWord_6 (by decide) (fun c_ => absurd (g1) c_) (fun _ => ?_)
      refine r_aload_n dX5_isWord_9 rfl ?_
      refine r_get bX5 14 (by decide) q1537 dX5_isWord_10 rfl rfl ?_
      refine r_aload_n dX5_isWord_13 rfl ?_
      refine r_get bX5 13 (by decide) q1536 dX5_isWord_14 rfl rfl ?_
      refine r_isub dX5_isWord_17 ?_
      refine r_aload_n dX5_isWord_18 rfl ?_
      refine r_callK (as := []) okJ5_length k rfl q1787 dX5_isWord_19 (Nat.le_of_ble_eq_true rfl) rfl (Nat.le_of_ble_eq_true rfl) (Nat.le_of_ble_eq_true rfl) (Nat.le_of_ble_eq_true rfl) (pJ5_length_K k ?_)
      refine r_icmp_eq 27 dX5_isWord_22 (by decide) (fun c_ => absurd c_ (fun z => g2 ((nI_eq (by omega) (by omega)).mp (e1.symm.trans z)))) (fun _ => ?_)
      refine r_iconst 0 dX5_isWord_25 (by decide) ?_
      exact r_zret (ty := .boolean) dX5_isWord_26 rfl (rfl) (Nat.le_of_ble_eq_true rfl) (Nat.le_of_ble_eq_true rfl) (hQ)
  · rw [show (tn == 119 && (e - f == b.length && eqT tp b f b.length 0)) = false by rw [show (tn == 119) = false by simpa using g1]; simp] at hQ
    refine r_aload_n dX5_isWord_0 rfl ?_
    refine r_get bX5 15 (by decide) q1538 dX5_isWord_1 rfl rfl ?_
    refine r_bipush 119 dX5_isWord_4 (by decide) ?_
    refine r_icmp_ne 25 dX5_isWord_6 (by decide) (fun _ => ?_) (fun c_ => absurd c_ (g1))
    refine r_iconst 0 dX5_isWord_25 (by decide) ?_
    exact r_zret (ty := .boolean) dX5_isWord_26 rfl (rfl) (Nat.le_of_ble_eq_true rfl) (Nat.le_of_ble_eq_true rfl) (hQ)
end MM
