set_option maxRecDepth 100000
/-! StringBuilder.toString; String.hashCode, equals -/
section TS
variable {Q : Option Value → AHp → Prop} {r0 x1 h2 D : List AC} {k a v n m : Nat} {g g' : Nat → Int32}
theorem pJ5_init_2 {ml : Value} (hk : D.length = k) (h0 : aGet (r0, x1, h2, D) a = some (.inr (16, [.ref v, .int 0, ml, .int (nI n)]))) (h1 : aGet (r0, x1, h2, D) v = some (.inl (.byte, m, .inl g))) (hn : n ≤ m) (hm : m ≤ 1000) (hf : ∀ j, j < n → fits .byte (.int (g j)) = true) (hg' : ∀ j, j < n → g j = g' j) (hQ : Q none (r0, x1, h2, D ++ [.inr (15, [.ref (8 * (k + 1) + 3), .int 0, .int 0, .int 0]), .inl (.byte, n, .inl g')])) : AMet mJ5_init_2 4 1 n [.ref (8 * (k + 0) + 3), .ref a, .null] (r0, x1, h2, D ++ [.inr (15, [.null, .int 0, .int 0, .int 0])]) Q := by
  refine AMet.ofRch rfl rfl (Nat.le_of_ble_eq_true rfl) ?_
  have hl : (D ++ [(.inr (15, [.null, .int 0, .int 0, .int 0]) : AC)]).length = k + 1 := by simp [hk]
  have h0' : aGet (r0, x1, h2, D ++ [.inr (15, [.null, .int 0, .int 0, .int 0])]) a = some (.inr (16, [.ref v, .int 0, ml, .int (nI n)])) := dyn_other h0
  have hs0 : 0 + 0 ≤ n := by omega
  have hs1 : 0 + 0 + 0 + 0 + n ≤ n := by omega
  refine r_aload_n dJ5_init_2_0 rfl ?_
  refine r_objInit q924 dJ5_init_2_1 (Nat.le_of_ble_eq_true rfl) ?_
  refine r_aload_n dJ5_init_2_4 rfl ?_
  refine r_callO (as := []) kcJ11_getValue q926 q927 q926 q929 q928 kcJ11_getValue.2.2.1 bJ12 h0' q925 dJ5_init_2_5 (Nat.le_of_ble_eq_true rfl) rfl (Nat.le_of_ble_eq_true rfl) (Nat.le_of_ble_eq_true rfl) (by show _ ≤ n; omega) (pJ11_getValue h0' ?_)
  refine r_astore_n dJ5_init_2_8 (Nat.le_of_ble_eq_true rfl) ?_
  refine r_aload_n dJ5_init_2_9 rfl ?_
  refine r_callO (as := []) kcJ12_length q934 q932 q931 q937 q933 kcJ11_length.2.2.1 bJ12 h0' q930 dJ5_init_2_10 (Nat.le_of_ble_eq_true rfl) rfl (Nat.le_of_ble_eq_true rfl) (Nat.le_of_ble_eq_true rfl) (by show _ ≤ n; omega) (pJ12_length h0' ?_)
  refine r_istore dJ5_init_2_13 (Nat.le_of_ble_eq_true rfl) ?_
  refine r_aload_n dJ5_init_2_15 rfl ?_
  refine r_callO (as := []) kcJ11_isLatin1 q815 q816 q815 q818 q817 kcJ11_isLatin1.2.2.1 bJ12 h0' q938 dJ5_init_2_16 (Nat.le_of_ble_eq_true rfl) rfl (Nat.le_of_ble_eq_true rfl) (Nat.le_of_ble_eq_true rfl) (by show _ ≤ n; omega) (pJ11_isLatin1 h0' ?_)
  refine r_if_eq 41 dJ5_init_2_19 (by decide) (fun c_ => absurd c_ (by decide)) (fun _ => ?_)
  refine r_aload_n dJ5_init_2_22 rfl ?_
  refine r_iconst 0 dJ5_init_2_23 (by decide) ?_
  refine r_putF bJ5 1 (by decide) rfl rfl rfl q962 dJ5_init_2_24 rfl rfl (dynG hk (i := 0) rfl) (Nat.le_of_ble_eq_true rfl) ?_
  rw [dynS hk (i := 0)]
  show Rch _ _ _ _ _ _ (r0, x1, h2, D ++ [.inr (15, [.null, .int 0, .int 0, .int 0])])
  refine r_aload_n dJ5_init_2_27 rfl ?_
  refine r_aload_n dJ5_init_2_28 rfl ?_
  refine r_iconst 0 dJ5_init_2_29 (by decide) ?_
  refine r_iload dJ5_init_2_30 rfl ?_
  refine r_callS (as := [_, _, _]) okJ0_copyOfRange q939 dJ5_init_2_32 (Nat.le_of_ble_eq_true rfl) rfl (Nat.le_of_ble_eq_true rfl) (Nat.le_of_ble_eq_true rfl) (by show _ ≤ n; omega) (pJ0_copyOfRange hl (dyn_other h1) hn hm hf hg' ?_)
  rw [List.append_assoc]
  show Rch _ _ _ _ _ (.ref (8 * (k + 1) + 3) :: _) (r0, x1, h2, D ++ [.inr (15, [.null, .int 0, .int 0, .int 0]), .inl (.byte, n, .inl g')])
  refine r_putF bJ5 0 (by decide) rfl rfl rfl q961 dJ5_init_2_35 rfl rfl (dynG hk (i := 0) rfl) (Nat.le_of_ble_eq_true rfl) ?_
  rw [dynS hk (i := 0)]
  show Rch _ _ _ _ _ _ (r0, x1, h2, D ++ [.inr (15, [.ref (8 * (k + 1) + 3), .int 0, .int 0, .int 0]), .inl (.byte, n, .inl g')])
  refine r_goto 97 dJ5_init_2_38 (by decide) ?_
  exact r_vret dJ5_init_2_97 rfl (Nat.le_of_ble_eq_true rfl) (by show _ ≤ n; omega) (hQ)
theorem pJ5_init {ml : Value} (hk : D.length = k) (h0 : aGet (r0, x1, h2, D) a = some (.inr (16, [.ref v, .int 0, ml, .int (nI n)]))) (h1 : aGet (r0, x1, h2, D) v = some (.inl (.byte, m, .inl g))) (hn : n ≤ m) (hm : m ≤ 1000) (hf : ∀ j, j < n → fits .byte (.int (g j)) = true) (hg' : ∀ j, j < n → g j = g' j) (hQ : Q none (r0, x1, h2, D ++ [.inr (15, [.ref (8 * (k + 1) + 3), .int 0, .int 0, .int 0]), .inl (.byte, n, .inl g')])) : AMet mJ5_init 5 1 n [.ref (8 * (k + 0) + 3), .ref a] (r0, x1, h2, D ++ [.inr (15, [.null, .int 0, .int 0, .int 0])]) Q := by
  refine AMet.ofRch rfl rfl (Nat.le_of_ble_eq_true rfl) ?_
  refine r_aload_n dJ5_init_0 rfl ?_
  refine r_aload_n dJ5_init_1 rfl ?_
  refine r_null dJ5_init_2 ?_
  refine r_callI (as := [_, _]) okJ5_init_2 q921 dJ5_init_3 (Nat.le_of_ble_eq_true rfl) rfl (Nat.le_of_ble_eq_true rfl) (Nat.le_of_ble_eq_true rfl) (by show _ ≤ n; omega) (pJ5_init_2 hk h0 h1 hn hm hf hg' ?_)
  exact r_vret dJ5_init_6 rfl (Nat.le_of_ble_eq_true rfl) (by show _ ≤ n; omega) (hQ)
theorem pJ12_toString {ml : Value} (hk : D.length = k) (h0 : aGet (r0, x1, h2, D) a = some (.inr (16, [.ref v, .int 0, ml, .int (nI n)]))) (h1 : aGet (r0, x1, h2, D) v = some (.inl (.byte, m, .inl g))) (hn : n ≤ m) (hm : m ≤ 1000) (hf : ∀ j, j < n → fits .byte (.int (g j)) = true) (hg' : ∀ j, j < n → g j = g' j) (hQ : Q (some (.ref (8 * (k + 0) + 3))) (r0, x1, h2, D ++ [.inr (15, [.ref (8 * (k + 1) + 3), .int 0, .int 0, .int 0]), .inl (.byte, n, .inl g')])) : AMet mJ12_toString 6 2 (4 + n) [.ref a] (r0, x1, h2, D) Q := by
  refine AMet.ofRch rfl rfl (Nat.le_of_ble_eq_true rfl) ?_
  subst hk
  refine r_new bJ5 [.null, .int 0, .int 0, .int 0] (by decide) (fun _ => rfl) q917 q369 q94 dJ12_toString_0 (Nat.le_of_ble_eq_true rfl) (by show _ ≤ 4 + n; omega) ?_
  show Rch _ _ _ _ _ (.ref (8 * (D.length + 0) + 3) :: _) (r0, x1, h2, D ++ [.inr (15, [.null, .int 0, .int 0, .int 0])])
  refine r_dup dJ12_toString_3 rfl ?_
  refine r_aload_n dJ12_toString_4 rfl ?_
  refine r_callI (as := [_]) okJ5_init q918 dJ12_toString_5 (Nat.le_of_ble_eq_true rfl) rfl (Nat.le_of_ble_eq_true rfl) (Nat.le_of_ble_eq_true rfl) (by show _ ≤ 4 + n; omega) (pJ5_init rfl h0 h1 hn hm hf hg' ?_)
  exact r_aret dJ12_toString_8 rfl (by first | exact Or.inl ⟨_, rfl⟩ | exact Or.inr ⟨_, rfl⟩) (Nat.le_of_ble_eq_true rfl) (by show _ ≤ 4 + n; omega) (hQ)
end TS
/-- String.hashCode over bytes -/
def hsG (g : Nat → Int32) : Nat → Int32
  | 0 => 0
  | j + 1 => 31 * hsG g j + (g j &&& 255)
section HC
variable {Q : Option Value → AHp → Prop} {h : AHp} {a v n : Nat} {g : Nat → Int32}
theorem pJ14_signedHashCode (h1 : aGet h v = some (.inl (.byte, n, .inl g))) (hn : n ≤ 1000) (hQ : Q (some (.int (hsG g n))) h) : AMet mJ14_signedHashCode 1 0 0 [.int 0, .ref v, .int 0, .int (nI n)] h Q := by
  refine AMet.ofRch rfl rfl (Nat.le_of_ble_eq_true rfl) ?_
  refine r_iload_n dJ14_signedHashCode_0 rfl ?_
  refine r_iload_n dJ14_signedHashCode_1 rfl ?_
  refine r_iadd dJ14_signedHashCode_2 ?_
  rw [Int32.zero_add]
  refine r_istore dJ14_signedHashCode_3 (Nat.le_of_ble_eq_true rfl) ?_
  refine r_iload_n dJ14_signedHashCode_5 rfl ?_
  refine r_istore dJ14_signedHashCode_6 (Nat.le_of_ble_eq_true rfl) ?_
  refine loopUp (N := n) (P := fun j => Rch (mJ14_signedHashCode, 1, 0, 0, oQ Q) 0 0 8 [some (.int (hsG g j)), some (.ref v), some (.int 0), some (.int (nI n)), some (.int (nI n)), some (.int (nI j))] [] h) ?_ ?_
  · refine r_iload dJ14_signedHashCode_8 rfl ?_
    refine r_iload dJ14_signedHashCode_10 rfl ?_
    refine r_icmp_ge 35 dJ14_signedHashCode_12 (by decide) (fun _ => ?_) (fun c_ => absurd (geT _) c_)
    refine r_iload_n dJ14_signedHashCode_35 rfl ?_
    exact r_iret dJ14_signedHashCode_36 rfl (Nat.le_of_ble_eq_true rfl) (Nat.le_of_ble_eq_true rfl) (hQ)
  · intro j hj ih
    refine r_iload dJ14_signedHashCode_8 rfl ?_
    refine r_iload dJ14_signedHashCode_10 rfl ?_
    refine r_icmp_ge 35 dJ14_signedHashCode_12 (by decide) (fun c_ => absurd c_ (geF hj (by omega))) (fun _ => ?_)
    refine r_bipush 31 dJ14_signedHashCode_15 (by decide) ?_
    refine r_iload_n dJ14_signedHashCode_17 rfl ?_
    refine r_imul dJ14_signedHashCode_18 ?_
    refine r_aload_n dJ14_signedHashCode_19 rfl ?_
    refine r_iload dJ14_signedHashCode_20 rfl ?_
    refine r_baldN dJ14_signedHashCode_22 h1 hj hn ?_
    refine r_sipush 255 dJ14_signedHashCode_23 (by decide) ?_
    refine r_iand dJ14_signedHashCode_26 ?_
    refine r_iadd dJ14_signedHashCode_27 ?_
    refine r_istore_n dJ14_signedHashCode_28 (Nat.le_of_ble_eq_true rfl) ?_
    refine r_iincV dJ14_signedHashCode_29 rfl (Nat.le_of_ble_eq_true rfl) (incN _) ?_
    refine r_goto 8 dJ14_signedHashCode_32 (by decide) ?_
    exact ih
theorem pJ14_vectorizedHashCode (h1 : aGet h v = some (.inl (.byte, n, .inl g))) (hn : n ≤ 1000) (hQ : Q (some (.int (hsG g n))) h) : AMet mJ14_vectorizedHashCode 2 0 0 [.ref v, .int 0, .int (nI n), .int 0, .int 4] h Q := by
  refine AMet.ofRch rfl rfl (Nat.le_of_ble_eq_true rfl) ?_
  refine r_iload dJ14_vectorizedHashCode_0 rfl ?_
  refine r_tableIn 44 dJ14_vectorizedHashCode_2 (by decide) (by decide) rfl (by decide) ?_
  refine r_iload_n dJ14_vectorizedHashCode_44 rfl ?_
  refine r_aload_n dJ14_vectorizedHashCode_45 rfl ?_
  refine r_castE (isA_arr (nm := "[B") (ty := .byte) (by decide) h1) q1113 dJ14_vectorizedHashCode_46 ?_
  refine r_iload_n dJ14_vectorizedHashCode_49 rfl ?_
  refine r_iload_n dJ14_vectorizedHashCode_50 rfl ?_
  refine r_callS (as := [_, _, _, _]) okJ14_signedHashCode q1114 dJ14_vectorizedHashCode_51 (Nat.le_of_ble_eq_true rfl) rfl (Nat.le_of_ble_eq_true rfl) (Nat.le_of_ble_eq_true rfl) (Nat.le_of_ble_eq_true rfl) (pJ14_signedHashCode h1 hn ?_)
  refine r_goto 157 dJ14_vectorizedHashCode_54 (by decide) ?_
  exact r_iret dJ14_vectorizedHashCode_157 rfl (Nat.le_of_ble_eq_true rfl) (Nat.le_of_ble_eq_true rfl) (hQ)
theorem pJ17_hashCode (h1 : aGet h v = some (.inl (.byte, n, .inl g))) (hn0 : 0 < n) (hn : n ≤ 1000) (hQ : Q (some (.int (hsG g n))) h) : AMet mJ17_hashCode 3 0 0 [.ref v] h Q := by
  refine AMet.ofRch rfl rfl (Nat.le_of_ble_eq_true rfl) ?_
  by_cases e : n = 1
  · subst e
    refine r_aload_n dJ17_hashCode_0 rfl ?_
    refine r_alen dJ17_hashCode_1 h1 2 rfl ?_
    refine r_lookup 32 dJ17_hashCode_2 rfl rfl (by decide) ?_
    refine r_aload_n dJ17_hashCode_32 rfl ?_
    refine r_iconst 0 dJ17_hashCode_33 (by decide) ?_
    refine r_baldN (j := 0) dJ17_hashCode_34 h1 (by omega) hn ?_
    refine r_sipush 255 dJ17_hashCode_35 (by decide) ?_
    refine r_iand dJ17_hashCode_38 ?_
    refine r_goto 51 dJ17_hashCode_39 (by decide) ?_
    exact r_iret dJ17_hashCode_51 rfl (Nat.le_of_ble_eq_true rfl) (Nat.le_of_ble_eq_true rfl) (qi (by show _ = 31 * 0 + (g 0 &&& 255); rw [Int32.mul_zero, Int32.zero_add]) hQ)
  · have e0 : ¬ Int32.ofNat n = 0 := fun z => by have := (nI_eq (b := 0) (by omega) (by omega)).mp (show nI n = nI 0 from z); omega
    have e1 : ¬ Int32.ofNat n = 1 := fun z => e ((nI_eq (b := 1) (by omega) (by omega)).mp (show nI n = nI 1 from z))
    refine r_aload_n dJ17_hashCode_0 rfl ?_
    refine r_alen dJ17_hashCode_1 h1 2 rfl ?_
    refine r_lookup (off := 40) 42 dJ17_hashCode_2 rfl ((lv_osw e0 (by decide)).trans ((lv_osw e1 (by decide)).trans rfl)) (by decide) ?_
    refine r_aload_n dJ17_hashCode_42 rfl ?_
    refine r_iconst 0 dJ17_hashCode_43 (by decide) ?_
    refine r_aload_n dJ17_hashCode_44 rfl ?_
    refine r_alen dJ17_hashCode_45 h1 2 rfl ?_
    refine r_iconst 0 dJ17_hashCode_46 (by decide) ?_
    refine r_iconst 4 dJ17_hashCode_47 (by decide) ?_
    refine r_callS (as := [_, _, _, _, _]) okJ14_vectorizedHashCode q1110 dJ17_hashCode_48 (Nat.le_of_ble_eq_true rfl) rfl (Nat.le_of_ble_eq_true rfl) (Nat.le_of_ble_eq_true rfl) (Nat.le_of_ble_eq_true rfl) (pJ14_vectorizedHashCode h1 hn ?_)
    exact r_iret dJ17_hashCode_51 rfl (Nat.le_of_ble_eq_true rfl) (Nat.le_of_ble_eq_true rfl) (hQ)
theorem pJ5_isLatin1 {vv hh hz : Value} (hg : aGet h a = some (.inr (15, [vv, .int 0, hh, hz]))) (hQ : Q (some (.int 1)) h) : AMet mJ5_isLatin1 1 0 0 [.ref a] h Q := by
  refine AMet.ofRch rfl rfl (Nat.le_of_ble_eq_true rfl) ?_
  refine r_getsC [false, false, false, false, false, false, false, true, false, false] rfl q743 (lw_all_tbl q94) q853 dJ5_isLatin1_0 ?_
  refine r_if_eq 17 dJ5_isLatin1_3 (by decide) (fun c_ => absurd c_ (by decide)) (fun _ => ?_)
  refine r_aload_n dJ5_isLatin1_6 rfl ?_
  refine r_get bJ5 1 (by decide) q962 dJ5_isLatin1_7 hg rfl ?_
  refine r_if_ne 17 dJ5_isLatin1_10 (by decide) (fun c_ => absurd (rfl) c_) (fun _ => ?_)
  refine r_iconst 1 dJ5_isLatin1_13 (by decide) ?_
  refine r_goto 18 dJ5_isLatin1_14 (by decide) ?_
  exact r_zret (ty := .boolean) dJ5_isLatin1_18 rfl (rfl) (Nat.le_of_ble_eq_true rfl) (Nat.le_of_ble_eq_true rfl) (hQ)
theorem pJ5_hashCode (h0 : aGet h a = some (.inr (15, [.ref v, .int 0, .int 0, .int 0]))) (h1 : aGet h v = some (.inl (.byte, n, .inl g))) (hn0 : 0 < n) (hn : n ≤ 1000) (hQ : ∀ x y, Q (some (.int (hsG g n))) (aSet h a (.inr (15, [.ref v, .int 0, .int x, .int y])))) : AMet mJ5_hashCode 4 0 0 [.ref a] h Q := by
  refine AMet.ofRch rfl rfl (Nat.le_of_ble_eq_true rfl) ?_
  by_cases e : hsG g n = 0
  · refine r_aload_n dJ5_hashCode_0 rfl ?_
    refine r_get bJ5 2 (by decide) q963 dJ5_hashCode_1 h0 rfl ?_
    refine r_istore_n dJ5_hashCode_4 (Nat.le_of_ble_eq_true rfl) ?_
    refine r_iload_n dJ5_hashCode_5 rfl ?_
    refine r_if_ne 58 dJ5_hashCode_6 (by decide) (fun c_ => absurd (rfl) c_) (fun _ => ?_)
    refine r_aload_n dJ5_hashCode_9 rfl ?_
    refine r_get bJ5 3 (by decide) q964 dJ5_hashCode_10 h0 rfl ?_
    refine r_if_ne 58 dJ5_hashCode_13 (by decide) (fun c_ => absurd (rfl) c_) (fun _ => ?_)
    refine r_aload_n dJ5_hashCode_16 rfl ?_
    refine r_callV (as := []) okJ5_isLatin1 bJ5 rfl h0 q1103 dJ5_hashCode_17 (Nat.le_of_ble_eq_true rfl) rfl (Nat.le_of_ble_eq_true rfl) (Nat.le_of_ble_eq_true rfl) (Nat.le_of_ble_eq_true rfl) (pJ5_isLatin1 h0 ?_)
    refine r_if_eq 33 dJ5_hashCode_20 (by decide) (fun c_ => absurd c_ (by decide)) (fun _ => ?_)
    refine r_aload_n dJ5_hashCode_23 rfl ?_
    refine r_get bJ5 0 (by decide) q961 dJ5_hashCode_24 h0 rfl ?_
    refine r_callS (as := [_]) okJ17_hashCode q1107 dJ5_hashCode_27 (Nat.le_of_ble_eq_true rfl) rfl (Nat.le_of_ble_eq_true rfl) (Nat.le_of_ble_eq_true rfl) (Nat.le_of_ble_eq_true rfl) (pJ17_hashCode h1 hn0 hn ?_)
    refine r_goto 40 dJ5_hashCode_30 (by decide) ?_
    refine r_istore_n dJ5_hashCode_40 (Nat.le_of_ble_eq_true rfl) ?_
    refine r_iload_n dJ5_hashCode_41 rfl ?_
    refine r_if_ne 53 dJ5_hashCode_42 (by decide) (fun c_ => absurd (e) c_) (fun _ => ?_)
    refine r_aload_n dJ5_hashCode_45 rfl ?_
    refine r_iconst 1 dJ5_hashCode_46 (by decide) ?_
    refine r_put bJ5 3 (by decide) rfl q964 dJ5_hashCode_47 rfl rfl h0 (Nat.le_of_ble_eq_true rfl) ?_
    refine r_goto 58 dJ5_hashCode_50 (by decide) ?_
    refine r_iload_n dJ5_hashCode_58 rfl ?_
    exact r_iret dJ5_hashCode_59 rfl (Nat.le_of_ble_eq_true rfl) (Nat.le_of_ble_eq_true rfl) (hQ _ _)
  · refine r_aload_n dJ5_hashCode_0 rfl ?_
    refine r_get bJ5 2 (by decide) q963 dJ5_hashCode_1 h0 rfl ?_
    refine r_istore_n dJ5_hashCode_4 (Nat.le_of_ble_eq_true rfl) ?_
    refine r_iload_n dJ5_hashCode_5 rfl ?_
    refine r_if_ne 58 dJ5_hashCode_6 (by decide) (fun c_ => absurd (rfl) c_) (fun _ => ?_)
    refine r_aload_n dJ5_hashCode_9 rfl ?_
    refine r_get bJ5 3 (by decide) q964 dJ5_hashCode_10 h0 rfl ?_
    refine r_if_ne 58 dJ5_hashCode_13 (by decide) (fun c_ => absurd (rfl) c_) (fun _ => ?_)
    refine r_aload_n dJ5_hashCode_16 rfl ?_
    refine r_callV (as := []) okJ5_isLatin1 bJ5 rfl h0 q1103 dJ5_hashCode_17 (Nat.le_of_ble_eq_true rfl) rfl (Nat.le_of_ble_eq_true rfl) (Nat.le_of_ble_eq_true rfl) (Nat.le_of_ble_eq_true rfl) (pJ5_isLatin1 h0 ?_)
    refine r_if_eq 33 dJ5_hashCode_20 (by decide) (fun c_ => absurd c_ (by decide)) (fun _ => ?_)
    refine r_aload_n dJ5_hashCode_23 rfl ?_
    refine r_get bJ5 0 (by decide) q961 dJ5_hashCode_24 h0 rfl ?_
    refine r_callS (as := [_]) okJ17_hashCode q1107 dJ5_hashCode_27 (Nat.le_of_ble_eq_true rfl) rfl (Nat.le_of_ble_eq_true rfl) (Nat.le_of_ble_eq_true rfl) (Nat.le_of_ble_eq_true rfl) (pJ17_hashCode h1 hn0 hn ?_)
    refine r_goto 40 dJ5_hashCode_30 (by decide) ?_
    refine r_istore_n dJ5_hashCode_40 (Nat.le_of_ble_eq_true rfl) ?_
    refine r_iload_n dJ5_hashCode_41 rfl ?_
    refine r_if_ne 53 dJ5_hashCode_42 (by decide) (fun _ => ?_) (fun c_ => absurd c_ (e))
    refine r_aload_n dJ5_hashCode_53 rfl ?_
    refine r_iload_n dJ5_hashCode_54 rfl ?_
    refine r_put bJ5 2 (by decide) rfl q963 dJ5_hashCode_55 rfl rfl h0 (Nat.le_of_ble_eq_true rfl) ?_
    refine r_iload_n dJ5_hashCode_58 rfl ?_
    exact r_iret dJ5_hashCode_59 rfl (Nat.le_of_ble_eq_true rfl) (Nat.le_of_ble_eq_true rfl) (hQ _ _)
theorem pJ5_hashCode_K {i q : Nat} {b : List Int32} {hv : Int32} (k : Sk i q b hv) (hne : ¬ hv = 0) (hQ : Q (some (.int hv)) h) : AMet mJ5_hashCode 1 0 0 [.ref (8 * (i + 1) + 4)] h Q := by
  refine AMet.ofRch rfl rfl (Nat.le_of_ble_eq_true rfl) ?_
  refine r_aload_n dJ5_hashCode_0 rfl ?_
  refine r_getKh k q963 dJ5_hashCode_1 ?_
  refine r_istore_n dJ5_hashCode_4 (Nat.le_of_ble_eq_true rfl) ?_
  refine r_iload_n dJ5_hashCode_5 rfl ?_
  refine r_if_ne 58 dJ5_hashCode_6 (by decide) (fun _ => ?_) (fun c_ => absurd c_ (hne))
  refine r_iload_n dJ5_hashCode_58 rfl ?_
  exact r_iret dJ5_hashCode_59 rfl (Nat.le_of_ble_eq_true rfl) (Nat.le_of_ble_eq_true rfl) (hQ)
theorem pJ17_equals {i : Nat} {b : List Int32} {hv : Int32} {tp : Nat → Int32} {f : Nat} (k : Sk i b.length b hv) (hb : b.length ≤ 1000) (h1 : aGet h v = some (.inl (.byte, n, .inl (fun j => tp (f + j))))) (hn : n ≤ 1000) (hQ : Q (some (.int (b2i (n == b.length && eqT tp b f b.length 0)))) h) : AMet mJ17_equals 1 0 0 [.ref v, .ref (8 * (i + 15) + 4)] h Q := by
  refine AMet.ofRch rfl rfl (Nat.le_of_ble_eq_true rfl) ?_
  by_cases e : n = b.length
  · rw [show (n == b.length && eqT tp b f b.length 0) = eqT tp b f b.length 0 by rw [show (n == b.length) = true by simpa using e, Bool.true_and]] at hQ
    refine r_aload_n dJ17_equals_0 rfl ?_
    refine r_alen dJ17_equals_1 h1 2 rfl ?_
    refine r_aload_n dJ17_equals_2 rfl ?_
    refine r_alenK k dJ17_equals_3 ?_
    refine r_icmp_ne 34 dJ17_equals_4 (by decide) (fun c_ => absurd (congrArg Int32.ofNat e) c_) (fun _ => ?_)
    refine r_iconst 0 dJ17_equals_7 (by decide) ?_
    refine r_istore_n dJ17_equals_8 (Nat.le_of_ble_eq_true rfl) ?_
    refine loopUp (N := b.length) (P := fun j => eqT tp b f b.length 0 = eqT tp b f (b.length - j) j → Rch (mJ17_equals, 1, 0, 0, oQ Q) 0 0 9 [some (.ref v), some (.ref (8 * (i + 15) + 4)), some (.int (nI j))] [] h) ?_ ?_ rfl
    · intro e2
      rw [e2, Nat.sub_self] at hQ
      refine r_iload_n dJ17_equals_9 rfl ?_
      refine r_aload_n dJ17_equals_10 rfl ?_
      refine r_alen dJ17_equals_11 h1 2 rfl ?_
      refine r_icmp_ge 32 dJ17_equals_12 (by decide) (fun _ => ?_) (fun c_ => absurd (by rw [e]; exact geT _) c_)
      refine r_iconst 1 dJ17_equals_32 (by decide) ?_
      exact r_zret (ty := .boolean) dJ17_equals_33 rfl (rfl) (Nat.le_of_ble_eq_true rfl) (Nat.le_of_ble_eq_true rfl) (hQ)
    · intro j hj ih e2
      rw [show b.length - j = (b.length - (j + 1)) + 1 by omega, eqT_s] at e2
      by_cases g3 : tp (f + j) = b.getD j 0
      · rw [show (tp (f + j) == b.getD j 0) = true by simpa using g3, Bool.true_and] at e2
        refine r_iload_n dJ17_equals_9 rfl ?_
        refine r_aload_n dJ17_equals_10 rfl ?_
        refine r_alen dJ17_equals_11 h1 2 rfl ?_
        refine r_icmp_ge 32 dJ17_equals_12 (by decide) (fun c_ => absurd c_ (by rw [e]; exact geF hj (by omega))) (fun _ => ?_)
        refine r_aload_n dJ17_equals_15 rfl ?_
        refine r_iload_n dJ17_equals_16 rfl ?_
        refine r_baldN (j := j) dJ17_equals_17 h1 (by omega) hn ?_
        refine r_aload_n dJ17_equals_18 rfl ?_
        refine r_iload_n dJ17_equals_19 rfl ?_
        refine r_baldK k hj dJ17_equals_20 ?_
        refine r_icmp_eq 26 dJ17_equals_21 (by decide) (fun _ => ?_) (fun c_ => absurd (g3) c_)
        refine r_iincV dJ17_equals_26 rfl (Nat.le_of_ble_eq_true rfl) (incN _) ?_
        refine r_goto 9 dJ17_equals_29 (by decide) ?_
        exact ih e2
      · rw [show (tp (f + j) == b.getD j 0) = false by simpa using g3, Bool.false_and] at e2
        rw [e2] at hQ
        refine r_iload_n dJ17_equals_9 rfl ?_
        refine r_aload_n dJ17_equals_10 rfl ?_
        refine r_alen dJ17_equals_11 h1 2 rfl ?_
        refine r_icmp_ge 32 dJ17_equals_12 (by decide) (fun c_ => absurd c_ (by rw [e]; exact geF hj (by omega))) (fun _ => ?_)
        refine r_aload_n dJ17_equals_15 rfl ?_
        refine r_iload_n dJ17_equals_16 rfl ?_
        refine r_baldN (j := j) dJ17_equals_17 h1 (by omega) hn ?_
        refine r_aload_n dJ17_equals_18 rfl ?_
        refine r_iload_n dJ17_equals_19 rfl ?_
        refine r_baldK k hj dJ17_equals_20 ?_
        refine r_icmp_eq 26 dJ17_equals_21 (by decide) (fun c_ => absurd c_ (g3)) (fun _ => ?_)
        refine r_iconst 0 dJ17_equals_24 (by decide) ?_
        exact r_zret (ty := .boolean) dJ17_equals_25 rfl (rfl) (Nat.le_of_ble_eq_true rfl) (Nat.le_of_ble_eq_true rfl) (hQ)
  · rw [show (n == b.length && eqT tp b f b.length 0) = false by rw [show (n == b.length) = false by simpa using e, Bool.false_and]] at hQ
    refine r_aload_n dJ17_equals_0 rfl ?_
    refine r_alen dJ17_equals_1 h1 2 rfl ?_
    refine r_aload_n dJ17_equals_2 rfl ?_
    refine r_alenK k dJ17_equals_3 ?_
    refine r_icmp_ne 34 dJ17_equals_4 (by decide) (fun _ => ?_) (fun c_ => absurd c_ (fun z => e ((nI_eq (by omega) (by omega)).mp z)))
    refine r_iconst 0 dJ17_equals_34 (by decide) ?_
    exact r_zret (ty := .boolean) dJ17_equals_35 rfl (rfl) (Nat.le_of_ble_eq_true rfl) (Nat.le_of_ble_eq_true rfl) (hQ)
theorem pJ5_equals {i : Nat} {b : List Int32} {hv : Int32} {tp : Nat → Int32} {f : Nat} {hh hz : Value} (k : Sk i b.length b hv) (hb : b.length ≤ 1000) (h0 : aGet h a = some (.inr (15, [.ref v, .int 0, hh, hz]))) (h1 : aGet h v = some (.inl (.byte, n, .inl (fun j => tp (f + j))))) (hn : n ≤ 1000) (hQ : Q (some (.int (b2i (n == b.length && eqT tp b f b.length 0)))) h) : AMet mJ5_equals 2 0 0 [.ref a, .ref (8 * (i + 1) + 4)] h Q := by
  refine AMet.ofRch rfl rfl (Nat.le_of_ble_eq_true rfl) ?_
  by_cases e : (n == b.length && eqT tp b f b.length 0) = true
  · refine r_aload_n dJ5_equals_0 rfl ?_
    refine r_aload_n dJ5_equals_1 rfl ?_
    refine r_acmpDK 7 k dJ5_equals_2 (by decide) h0 rfl ?_
    refine r_aload_n dJ5_equals_7 rfl ?_
    refine r_instK k q1157 dJ5_equals_8 ?_
    refine r_if_eq 54 dJ5_equals_11 (by decide) (fun c_ => absurd c_ (by decide)) (fun _ => ?_)
    refine r_aload_n dJ5_equals_14 rfl ?_
    refine r_castK k q1157 dJ5_equals_15 ?_
    refine r_astore_n dJ5_equals_18 (Nat.le_of_ble_eq_true rfl) ?_
    refine r_getsC [false, false, false, false, false, false, false, true, false, false] rfl q743 (lw_all_tbl q94) q853 dJ5_equals_19 ?_
    refine r_if_eq 36 dJ5_equals_22 (by decide) (fun c_ => absurd c_ (by decide)) (fun _ => ?_)
    refine r_aload_n dJ5_equals_25 rfl ?_
    refine r_get bJ5 1 (by decide) q962 dJ5_equals_26 h0 rfl ?_
    refine r_aload_n dJ5_equals_29 rfl ?_
    refine r_getKc k q962 dJ5_equals_30 ?_
    refine r_icmp_ne 54 dJ5_equals_33 (by decide) (fun c_ => absurd (rfl) c_) (fun _ => ?_)
    refine r_aload_n dJ5_equals_36 rfl ?_
    refine r_get bJ5 0 (by decide) q961 dJ5_equals_37 h0 rfl ?_
    refine r_aload_n dJ5_equals_40 rfl ?_
    refine r_getKv k q961 dJ5_equals_41 ?_
    refine r_callS (as := [_, _]) okJ17_equals q1158 dJ5_equals_44 (Nat.le_of_ble_eq_true rfl) rfl (Nat.le_of_ble_eq_true rfl) (Nat.le_of_ble_eq_true rfl) (Nat.le_of_ble_eq_true rfl) (pJ17_equals k hb h1 hn ?_)
    refine r_if_eq 54 dJ5_equals_47 (by decide) (fun c_ => absurd c_ (by rw [e]; decide)) (fun _ => ?_)
    refine r_iconst 1 dJ5_equals_50 (by decide) ?_
    refine r_goto 55 dJ5_equals_51 (by decide) ?_
    exact r_zret (ty := .boolean) dJ5_equals_55 rfl (rfl) (Nat.le_of_ble_eq_true rfl) (Nat.le_of_ble_eq_true rfl) (qi (by rw [e]; rfl) hQ)
  · refine r_aload_n dJ5_equals_0 rfl ?_
    refine r_aload_n dJ5_equals_1 rfl ?_
    refine r_acmpDK 7 k dJ5_equals_2 (by decide) h0 rfl ?_
    refine r_aload_n dJ5_equals_7 rfl ?_
    refine r_instK k q1157 dJ5_equals_8 ?_
    refine r_if_eq 54 dJ5_equals_11 (by decide) (fun c_ => absurd c_ (by decide)) (fun _ => ?_)
    refine r_aload_n dJ5_equals_14 rfl ?_
    refine r_castK k q1157 dJ5_equals_15 ?_
    refine r_astore_n dJ5_equals_18 (Nat.le_of_ble_eq_true rfl) ?_
    refine r_getsC [false, false, false, false, false, false, false, true, false, false] rfl q743 (lw_all_tbl q94) q853 dJ5_equals_19 ?_
    refine r_if_eq 36 dJ5_equals_22 (by decide) (fun c_ => absurd c_ (by decide)) (fun _ => ?_)
    refine r_aload_n dJ5_equals_25 rfl ?_
    refine r_get bJ5 1 (by decide) q962 dJ5_equals_26 h0 rfl ?_
    refine r_aload_n dJ5_equals_29 rfl ?_
    refine r_getKc k q962 dJ5_equals_30 ?_
    refine r_icmp_ne 54 dJ5_equals_33 (by decide) (fun c_ => absurd (rfl) c_) (fun _ => ?_)
    refine r_aload_n dJ5_equals_36 rfl ?_
    refine r_get bJ5 0 (by decide) q961 dJ5_equals_37 h0 rfl ?_
    refine r_aload_n dJ5_equals_40 rfl ?_
    refine r_getKv k q961 dJ5_equals_41 ?_
    refine r_callS (as := [_, _]) okJ17_equals q1158 dJ5_equals_44 (Nat.le_of_ble_eq_true rfl) rfl (Nat.le_of_ble_eq_true rfl) (Nat.le_of_ble_eq_true rfl) (Nat.le_of_ble_eq_true rfl) (pJ17_equals k hb h1 hn ?_)
    refine r_if_eq 54 dJ5_equals_47 (by decide) (fun _ => ?_) (fun c_ => absurd (by rw [Bool.not_eq_true _ |>.mp e]; rfl) c_)
    refine r_iconst 0 dJ5_equals_54 (by decide) ?_
    exact r_zret (ty := .boolean) dJ5_equals_55 rfl (rfl) (Nat.le_of_ble_eq_true rfl) (Nat.le_of_ble_eq_true rfl) (qi (by rw [Bool.not_eq_true _ |>.mp e]; rfl) hQ)
theorem pJ5_equals_same {i q : Nat} {b : List Int32} {hv : Int32} (k : Sk i q b hv) (hQ : Q (some (.int 1)) h) : AMet mJ5_equals 1 0 0 [.ref (8 * (i + 1) + 4), .ref (8 * (i + 1) + 4)] h Q := by
  refine AMet.ofRch rfl rfl (Nat.le_of_ble_eq_true rfl) ?_
  refine r_aload_n dJ5_equals_0 rfl ?_
  refine r_aload_n dJ5_equals_1 rfl ?_
  refine r_acmpSame dJ5_equals_2 (by decide) ?_
  refine r_iconst 1 dJ5_equals_5 (by decide) ?_
  exact r_zret (ty := .boolean) dJ5_equals_6 rfl (rfl) (Nat.le_of_ble_eq_true rfl) (Nat.le_of_ble_eq_true rfl) (hQ)
end HC
