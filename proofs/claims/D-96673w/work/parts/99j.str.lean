set_option maxRecDepth 100000
/-! StringBuilder: <init>, append(char), toString; String: hashCode, equals -/
theorem let_nI {x : Int32} (h : letB x = true) : ∃ c, c < 123 ∧ x = nI c := by
  unfold letB inB at h
  simp only [Bool.and_eq_true, decide_eq_true_eq] at h
  refine inB_m (m := 123) ?_ (by omega)
  unfold inB
  have h1 : (0 : Int32) ≤ x := Int32.le_trans (by decide) h.1
  have h3 : x ≤ nI 123 - 1 := h.2
  simp only [h1, h3, decide_true, Bool.and_self]
theorem let_all : ∀ c, c < 123 → ((nI c).toUInt32 % 65536).toInt32 = nI c ∧ (nI c).toInt8.toInt32 = nI c ∧ vp_nar .byte (nI c) = nI c ∧ fits .byte (.int (nI c)) = true ∧ ¬ 255 < nI c := by decide +kernel
theorem let_c {x : Int32} (h : letB x = true) : (x.toUInt32 % 65536).toInt32 = x := by
  obtain ⟨c, hc, rfl⟩ := let_nI h
  exact (let_all c hc).1
theorem let_b {x : Int32} (h : letB x = true) : x.toInt8.toInt32 = x := by
  obtain ⟨c, hc, rfl⟩ := let_nI h
  exact (let_all c hc).2.1
theorem let_n {x : Int32} (h : letB x = true) : vp_nar .byte x = x := by
  obtain ⟨c, hc, rfl⟩ := let_nI h
  exact (let_all c hc).2.2.1
theorem let_f {x : Int32} (h : letB x = true) : fits .byte (.int x) = true := by
  obtain ⟨c, hc, rfl⟩ := let_nI h
  exact (let_all c hc).2.2.2.1
theorem let_g {x : Int32} (h : letB x = true) : ¬ 255 < x := by
  obtain ⟨c, hc, rfl⟩ := let_nI h
  exact (let_all c hc).2.2.2.2
/-- the first n letters from place f on, then zeros -/
def bF (tp : Nat → Int32) (f n : Nat) : Nat → Int32 := fun j => if j < n then tp (f + j) else 0
theorem bF_fits {tp : Nat → Int32} {f n j : Nat} (h : ∀ j, j < n → letB (tp (f + j)) = true) : fits .byte (.int (bF tp f n j)) = true := by
  unfold bF
  by_cases hj : j < n
  · rw [if_pos hj]; exact let_f (h j hj)
  · rw [if_neg hj]; rfl
theorem bF_upd {tp : Nat → Int32} {f n j : Nat} : upd (bF tp f n) n (tp (f + n)) j = bF tp f (n + 1) j := by
  unfold upd bF
  by_cases h1 : j = n
  · subst h1; simp
  · by_cases h2 : j < n
    · simp [h1, h2, show j < n + 1 by omega]
    · simp [h1, h2, show ¬ j < n + 1 by omega]
theorem zb_at {x c : AC} {Z : List AC} {z : Nat} (hz : Z.length = z) : (x :: (Z ++ [c]))[1 + z]? = some c := by
  subst hz
  rw [Nat.add_comm, List.getElem?_cons_succ]
  simp
theorem zb_set {x c d : AC} {Z : List AC} {z : Nat} (hz : Z.length = z) : (x :: (Z ++ [c])).set (1 + z) d = x :: (Z ++ [d]) := by
  subst hz
  rw [Nat.add_comm, List.set_cons_succ]
  simp
section SB
variable {Q : Option Value → AHp → Prop} {r0 x1 h2 D Z : List AC} {k z f n m : Nat} {tp : Nat → Int32}
theorem pJ11_init (hk : D.length = k) (hQ : Q none (r0, x1, h2, D ++ [.inr (16, [.ref (8 * (k + 1) + 3), .int 0, .int 0, .int 0]), .inl (.byte, 16, .inl (fun _ => 0))])) : AMet mJ11_init 1 1 16 [.ref (8 * (k + 0) + 3), .int 16] (r0, x1, h2, D ++ [.inr (16, [.null, .int 0, .int 0, .int 0])]) Q := by
  refine AMet.ofRch rfl rfl (Nat.le_of_ble_eq_true rfl) ?_
  subst hk
  refine r_aload_n dJ11_init_0 rfl ?_
  refine r_objInit q741 dJ11_init_1 (Nat.le_of_ble_eq_true rfl) ?_
  refine r_getsC [false, false, false, false, false, false, false, true, false, false] rfl q743 (lw_all_tbl q94) q742 dJ11_init_4 ?_
  refine r_if_eq 25 dJ11_init_7 (by decide) (fun c_ => absurd c_ (by decide)) (fun _ => ?_)
  refine r_aload_n dJ11_init_10 rfl ?_
  refine r_iload_n dJ11_init_11 rfl ?_
  refine r_newa_byte 16 q370 dJ11_init_12 (by decide) (by decide) (by decide) (Nat.le_of_ble_eq_true rfl) (Nat.le_of_ble_eq_true rfl) ?_
  rw [dynN (k := D.length) (i := 1) rfl rfl, dynP]
  show Rch _ _ _ _ _ _ (r0, x1, h2, D ++ [.inr (16, [.null, .int 0, .int 0, .int 0]), .inl (.byte, 16, .inl (fun _ => 0))])
  refine r_put bJ12 0 (by decide) rfl q756 dJ11_init_14 rfl rfl (dynG rfl (i := 0) rfl) (Nat.le_of_ble_eq_true rfl) ?_
  rw [dynS rfl (i := 0)]
  show Rch _ _ _ _ _ _ (r0, x1, h2, D ++ [.inr (16, [.ref (8 * (D.length + 1) + 3), .int 0, .int 0, .int 0]), .inl (.byte, 16, .inl (fun _ => 0))])
  refine r_aload_n dJ11_init_17 rfl ?_
  refine r_iconst 0 dJ11_init_18 (by decide) ?_
  refine r_put bJ12 1 (by decide) rfl q757 dJ11_init_19 rfl rfl (dynG rfl (i := 0) rfl) (Nat.le_of_ble_eq_true rfl) ?_
  rw [dynS rfl (i := 0)]
  show Rch _ _ _ _ _ _ (r0, x1, h2, D ++ [.inr (16, [.ref (8 * (D.length + 1) + 3), .int 0, .int 0, .int 0]), .inl (.byte, 16, .inl (fun _ => 0))])
  refine r_goto 38 dJ11_init_22 (by decide) ?_
  exact r_vret dJ11_init_38 rfl (Nat.le_of_ble_eq_true rfl) (Nat.le_of_ble_eq_true rfl) (hQ)
theorem pJ12_init (hk : D.length = k) (hQ : Q none (r0, x1, h2, D ++ [.inr (16, [.ref (8 * (k + 1) + 3), .int 0, .int 0, .int 0]), .inl (.byte, 16, .inl (fun _ => 0))])) : AMet mJ12_init 2 1 16 [.ref (8 * (k + 0) + 3)] (r0, x1, h2, D ++ [.inr (16, [.null, .int 0, .int 0, .int 0])]) Q := by
  refine AMet.ofRch rfl rfl (Nat.le_of_ble_eq_true rfl) ?_
  refine r_aload_n dJ12_init_0 rfl ?_
  refine r_bipush 16 dJ12_init_1 (by decide) ?_
  refine r_callI (as := [_]) okJ11_init q738 dJ12_init_3 (Nat.le_of_ble_eq_true rfl) rfl (Nat.le_of_ble_eq_true rfl) (Nat.le_of_ble_eq_true rfl) (Nat.le_of_ble_eq_true rfl) (pJ11_init hk ?_)
  exact r_vret dJ12_init_6 rfl (Nat.le_of_ble_eq_true rfl) (Nat.le_of_ble_eq_true rfl) (hQ)
theorem pJ11_append_k (hk : D.length = k) (hz : Z.length = z) (hn : n < m) (hm : m ≤ 70) (hx : letB (tp (f + n)) = true) (hQ : Q (some (.ref (8 * (k + 0) + 3))) (r0, x1, h2, D ++ (.inr (16, [.ref (8 * (k + (1 + z)) + 3), .int 0, .int 0, .int (nI (n + 1))]) :: (Z ++ [.inl (.byte, m, .inl (bF tp f (n + 1)))])))) : AMet mJ11_append_3 2 0 0 [.ref (8 * (k + 0) + 3), .int (tp (f + n))] (r0, x1, h2, D ++ (.inr (16, [.ref (8 * (k + (1 + z)) + 3), .int 0, .int 0, .int (nI n)]) :: (Z ++ [.inl (.byte, m, .inl (bF tp f n))]))) Q := by
  refine AMet.ofRch rfl rfl (Nat.le_of_ble_eq_true rfl) ?_
  refine r_aload_n dJ11_append_3_0 rfl ?_
  refine r_aload_n dJ11_append_3_1 rfl ?_
  refine r_get bJ12 3 (by decide) q759 dJ11_append_3_2 (dynG hk (i := 0) rfl) rfl ?_
  refine r_iconst 1 dJ11_append_3_5 (by decide) ?_
  refine r_iadd dJ11_append_3_6 ?_
  rw [nI_1]
  refine r_callR (as := [_]) kcJ11_ensureCapacityInternal q783 q2051 q817 rfl q782 bJ12 (dynG hk (i := 0) rfl) q781 dJ11_append_3_7 (Nat.le_of_ble_eq_true rfl) rfl (Nat.le_of_ble_eq_true rfl) (Nat.le_of_ble_eq_true rfl) (Nat.le_of_ble_eq_true rfl) (pJ11_ensure_k (dynG hk (i := 0) rfl) (dynG hk (i := 1 + z) (zb_at hz)) (by omega) (by omega) ?_)
  refine r_aload_n dJ11_append_3_10 rfl ?_
  refine r_callO (as := []) kcJ11_isLatin1 q815 q816 q815 q818 q817 kcJ11_isLatin1.2.2.1 bJ12 (dynG hk (i := 0) rfl) q814 dJ11_append_3_11 (Nat.le_of_ble_eq_true rfl) rfl (Nat.le_of_ble_eq_true rfl) (Nat.le_of_ble_eq_true rfl) (Nat.le_of_ble_eq_true rfl) (pJ11_isLatin1 (dynG hk (i := 0) rfl) ?_)
  refine r_if_eq 45 dJ11_append_3_14 (by decide) (fun c_ => absurd c_ (by decide)) (fun _ => ?_)
  refine r_iload_n dJ11_append_3_17 rfl ?_
  refine r_callS (as := [_]) okJ17_canEncode q1054 dJ11_append_3_18 (Nat.le_of_ble_eq_true rfl) rfl (Nat.le_of_ble_eq_true rfl) (Nat.le_of_ble_eq_true rfl) (Nat.le_of_ble_eq_true rfl) (pJ17_canEncode (let_g hx) ?_)
  refine r_if_eq 45 dJ11_append_3_21 (by decide) (fun c_ => absurd c_ (by decide)) (fun _ => ?_)
  refine r_aload_n dJ11_append_3_24 rfl ?_
  refine r_get bJ12 0 (by decide) q756 dJ11_append_3_25 (dynG hk (i := 0) rfl) rfl ?_
  refine r_aload_n dJ11_append_3_28 rfl ?_
  refine r_dup dJ11_append_3_29 rfl ?_
  refine r_get bJ12 3 (by decide) q759 dJ11_append_3_30 (dynG hk (i := 0) rfl) rfl ?_
  refine r_dup_x1 dJ11_append_3_33 rfl rfl ?_
  refine r_iconst 1 dJ11_append_3_34 (by decide) ?_
  refine r_iadd dJ11_append_3_35 ?_
  rw [nI_1]
  refine r_put bJ12 3 (by decide) rfl q759 dJ11_append_3_36 rfl rfl (dynG hk (i := 0) rfl) (Nat.le_of_ble_eq_true rfl) ?_
  rw [dynS hk (i := 0)]
  show Rch _ _ _ _ _ _ (r0, x1, h2, D ++ (.inr (16, [.ref (8 * (k + (1 + z)) + 3), .int 0, .int 0, .int (nI (n + 1))]) :: (Z ++ [.inl (.byte, m, .inl (bF tp f n))])))
  refine r_iload_n dJ11_append_3_39 rfl ?_
  refine r_i2b dJ11_append_3_40 ?_
  rw [let_b hx]
  refine r_bastN dJ11_append_3_41 (dynG hk (i := 1 + z) (zb_at hz)) hn (by omega) ?_
  rw [let_n hx, dynS hk (i := 1 + z), zb_set hz]
  refine r_norm (bF tp f (n + 1)) (dynG hk (i := 1 + z) (zb_at hz)) (fun j _ => bF_upd) ?_
  rw [dynS hk (i := 1 + z), zb_set hz]
  refine r_goto 75 dJ11_append_3_42 (by decide) ?_
  refine r_aload_n dJ11_append_3_75 rfl ?_
  exact r_aret dJ11_append_3_76 rfl (by first | exact Or.inl ⟨_, rfl⟩ | exact Or.inr ⟨_, rfl⟩) (Nat.le_of_ble_eq_true rfl) (Nat.le_of_ble_eq_true rfl) (hQ)
theorem pJ12_append_k (hk : D.length = k) (hz : Z.length = z) (hn : n < m) (hm : m ≤ 70) (hx : letB (tp (f + n)) = true) (hQ : Q (some (.ref (8 * (k + 0) + 3))) (r0, x1, h2, D ++ (.inr (16, [.ref (8 * (k + (1 + z)) + 3), .int 0, .int 0, .int (nI (n + 1))]) :: (Z ++ [.inl (.byte, m, .inl (bF tp f (n + 1)))])))) : AMet mJ12_append_3 3 0 0 [.ref (8 * (k + 0) + 3), .int (tp (f + n))] (r0, x1, h2, D ++ (.inr (16, [.ref (8 * (k + (1 + z)) + 3), .int 0, .int 0, .int (nI n)]) :: (Z ++ [.inl (.byte, m, .inl (bF tp f n))]))) Q := by
  refine AMet.ofRch rfl rfl (Nat.le_of_ble_eq_true rfl) ?_
  refine r_aload_n dJ12_append_3_0 rfl ?_
  refine r_iload_n dJ12_append_3_1 rfl ?_
  refine r_callP (as := [_]) kcJ11_append_3 q1052 q2057 q768 (by decide) bJ12 (dynG hk (i := 0) rfl) q1051 dJ12_append_3_2 (Nat.le_of_ble_eq_true rfl) rfl (Nat.le_of_ble_eq_true rfl) (Nat.le_of_ble_eq_true rfl) (Nat.le_of_ble_eq_true rfl) (pJ11_append_k hk hz hn hm hx ?_)
  refine r_pop dJ12_append_3_5 rfl ?_
  refine r_aload_n dJ12_append_3_6 rfl ?_
  exact r_aret dJ12_append_3_7 rfl (by first | exact Or.inl ⟨_, rfl⟩ | exact Or.inr ⟨_, rfl⟩) (Nat.le_of_ble_eq_true rfl) (Nat.le_of_ble_eq_true rfl) (hQ)
theorem pJ11_ensure_g {c : Value} (hk : D.length = k) (hz : Z.length = z) (hm : m = 16 ∨ m = 34) (hx : ∀ j, j < m → letB (tp (f + j)) = true) (hQ : Q none (r0, x1, h2, D ++ (.inr (16, [.ref (8 * (k + (1 + (z + 1))) + 3), .int 0, .int 0, c]) :: ((Z ++ [.inl (.byte, m, .inl (bF tp f m))]) ++ [.inl (.byte, 2 * m + 2, .inl (bF tp f m))])))) : AMet mJ11_ensureCapacityInternal 3 1 (2 * m + 2) [.ref (8 * (k + 0) + 3), .int (nI (m + 1))] (r0, x1, h2, D ++ (.inr (16, [.ref (8 * (k + (1 + z)) + 3), .int 0, .int 0, c]) :: (Z ++ [.inl (.byte, m, .inl (bF tp f m))]))) Q := by
  refine AMet.ofRch rfl rfl (Nat.le_of_ble_eq_true rfl) ?_
  have hl : (D ++ ((.inr (16, [.ref (8 * (k + (1 + z)) + 3), .int 0, .int 0, c]) : AC) :: (Z ++ [.inl (.byte, m, .inl (bF tp f m))]))).length = k + (1 + (z + 1)) := by
    simp [hk, hz]; omega
  have hm2 : m ≤ 34 := by omega
  refine r_aload_n dJ11_ensureCapacityInternal_0 rfl ?_
  refine r_get bJ12 0 (by decide) q756 dJ11_ensureCapacityInternal_1 (dynG hk (i := 0) rfl) rfl ?_
  refine r_alen dJ11_ensureCapacityInternal_4 (dynG hk (i := 1 + z) (zb_at hz)) 2 rfl ?_
  refine r_aload_n dJ11_ensureCapacityInternal_5 rfl ?_
  refine r_get bJ12 1 (by decide) q757 dJ11_ensureCapacityInternal_6 (dynG hk (i := 0) rfl) rfl ?_
  refine r_ishr dJ11_ensureCapacityInternal_9 ?_
  rw [sb_shr0]
  refine r_istore_n dJ11_ensureCapacityInternal_10 (Nat.le_of_ble_eq_true rfl) ?_
  refine r_iload_n dJ11_ensureCapacityInternal_11 rfl ?_
  refine r_iload_n dJ11_ensureCapacityInternal_12 rfl ?_
  refine r_isub dJ11_ensureCapacityInternal_13 ?_
  refine r_if_le 38 dJ11_ensureCapacityInternal_14 (by decide) (fun c_ => absurd c_ (gt0 (by omega) (by omega))) (fun _ => ?_)
  refine r_aload_n dJ11_ensureCapacityInternal_17 rfl ?_
  refine r_aload_n dJ11_ensureCapacityInternal_18 rfl ?_
  refine r_get bJ12 0 (by decide) q756 dJ11_ensureCapacityInternal_19 (dynG hk (i := 0) rfl) rfl ?_
  refine r_aload_n dJ11_ensureCapacityInternal_22 rfl ?_
  refine r_iload_n dJ11_ensureCapacityInternal_23 rfl ?_
  refine r_callR (as := [_]) kcJ11_newCapacity q787 q2052 q817 rfl q786 bJ12 (dynG hk (i := 0) rfl) q785 dJ11_ensureCapacityInternal_24 (Nat.le_of_ble_eq_true rfl) rfl (Nat.le_of_ble_eq_true rfl) (Nat.le_of_ble_eq_true rfl) (show 0 + 0 ≤ 2 * m + 2 by omega) (pJ11_newCap (dynG hk (i := 0) rfl) (dynG hk (i := 1 + z) (zb_at hz)) hm ?_)
  refine r_aload_n dJ11_ensureCapacityInternal_27 rfl ?_
  refine r_get bJ12 1 (by decide) q757 dJ11_ensureCapacityInternal_28 (dynG hk (i := 0) rfl) rfl ?_
  refine r_ishl dJ11_ensureCapacityInternal_31 ?_
  rw [sb_shl0]
  refine r_callS (as := [_, _]) okJ0_copyOf q800 dJ11_ensureCapacityInternal_32 (Nat.le_of_ble_eq_true rfl) rfl (Nat.le_of_ble_eq_true rfl) (Nat.le_of_ble_eq_true rfl) (show 0 + 0 + (2 * m + 2) ≤ 2 * m + 2 by omega) (pJ0_copyOf hl (dynG hk (i := 1 + z) (zb_at hz)) (by omega) (by omega) (fun j _ => bF_fits hx) (g' := bF tp f m) (fun j _ => by unfold bF; by_cases q : j < m <;> simp [q]) ?_)
  rw [List.append_assoc]
  show Rch _ _ _ _ _ _ (r0, x1, h2, D ++ (.inr (16, [.ref (8 * (k + (1 + z)) + 3), .int 0, .int 0, c]) :: ((Z ++ [.inl (.byte, m, .inl (bF tp f m))]) ++ [.inl (.byte, 2 * m + 2, .inl (bF tp f m))])))
  refine r_put bJ12 0 (by decide) rfl q756 dJ11_ensureCapacityInternal_35 rfl rfl (dynG hk (i := 0) rfl) (Nat.le_of_ble_eq_true rfl) ?_
  rw [dynS hk (i := 0)]
  exact r_vret dJ11_ensureCapacityInternal_38 rfl (Nat.le_of_ble_eq_true rfl) (show 0 + 0 + (2 * m + 2) ≤ 2 * m + 2 by omega) (hQ)
theorem pJ11_append_g (hk : D.length = k) (hz : Z.length = z) (hm : m = 16 ∨ m = 34) (hx : ∀ j, j < m + 1 → letB (tp (f + j)) = true) (hQ : Q (some (.ref (8 * (k + 0) + 3))) (r0, x1, h2, D ++ (.inr (16, [.ref (8 * (k + (1 + (z + 1))) + 3), .int 0, .int 0, .int (nI (m + 1))]) :: ((Z ++ [.inl (.byte, m, .inl (bF tp f m))]) ++ [.inl (.byte, 2 * m + 2, .inl (bF tp f (m + 1)))])))) : AMet mJ11_append_3 4 1 (2 * m + 2) [.ref (8 * (k + 0) + 3), .int (tp (f + m))] (r0, x1, h2, D ++ (.inr (16, [.ref (8 * (k + (1 + z)) + 3), .int 0, .int 0, .int (nI m)]) :: (Z ++ [.inl (.byte, m, .inl (bF tp f m))]))) Q := by
  refine AMet.ofRch rfl rfl (Nat.le_of_ble_eq_true rfl) ?_
  have hz1 : (Z ++ [(.inl (.byte, m, .inl (bF tp f m)) : AC)]).length = z + 1 := by simp [hz]
  have hx1 := hx m (by omega)
  have hm2 : m ≤ 34 := by omega
  have hs1 : 0 + (2 * m + 2) ≤ 2 * m + 2 := by omega
  refine r_aload_n dJ11_append_3_0 rfl ?_
  refine r_aload_n dJ11_append_3_1 rfl ?_
  refine r_get bJ12 3 (by decide) q759 dJ11_append_3_2 (dynG hk (i := 0) rfl) rfl ?_
  refine r_iconst 1 dJ11_append_3_5 (by decide) ?_
  refine r_iadd dJ11_append_3_6 ?_
  rw [nI_1]
  refine r_callR (as := [_]) kcJ11_ensureCapacityInternal q783 q2051 q817 rfl q782 bJ12 (dynG hk (i := 0) rfl) q781 dJ11_append_3_7 (Nat.le_of_ble_eq_true rfl) rfl (Nat.le_of_ble_eq_true rfl) (Nat.le_of_ble_eq_true rfl) hs1 (pJ11_ensure_g hk hz hm (fun j hj => hx j (by omega)) ?_)
  refine r_aload_n dJ11_append_3_10 rfl ?_
  refine r_callO (as := []) kcJ11_isLatin1 q815 q816 q815 q818 q817 kcJ11_isLatin1.2.2.1 bJ12 (dynG hk (i := 0) rfl) q814 dJ11_append_3_11 (Nat.le_of_ble_eq_true rfl) rfl (Nat.le_of_ble_eq_true rfl) (Nat.le_of_ble_eq_true rfl) hs1 (pJ11_isLatin1 (dynG hk (i := 0) rfl) ?_)
  refine r_if_eq 45 dJ11_append_3_14 (by decide) (fun c_ => absurd c_ (by decide)) (fun _ => ?_)
  refine r_iload_n dJ11_append_3_17 rfl ?_
  refine r_callS (as := [_]) okJ17_canEncode q1054 dJ11_append_3_18 (Nat.le_of_ble_eq_true rfl) rfl (Nat.le_of_ble_eq_true rfl) (Nat.le_of_ble_eq_true rfl) hs1 (pJ17_canEncode (let_g hx1) ?_)
  refine r_if_eq 45 dJ11_append_3_21 (by decide) (fun c_ => absurd c_ (by decide)) (fun _ => ?_)
  refine r_aload_n dJ11_append_3_24 rfl ?_
  refine r_get bJ12 0 (by decide) q756 dJ11_append_3_25 (dynG hk (i := 0) rfl) rfl ?_
  refine r_aload_n dJ11_append_3_28 rfl ?_
  refine r_dup dJ11_append_3_29 rfl ?_
  refine r_get bJ12 3 (by decide) q759 dJ11_append_3_30 (dynG hk (i := 0) rfl) rfl ?_
  refine r_dup_x1 dJ11_append_3_33 rfl rfl ?_
  refine r_iconst 1 dJ11_append_3_34 (by decide) ?_
  refine r_iadd dJ11_append_3_35 ?_
  rw [nI_1]
  refine r_put bJ12 3 (by decide) rfl q759 dJ11_append_3_36 rfl rfl (dynG hk (i := 0) rfl) (Nat.le_of_ble_eq_true rfl) ?_
  rw [dynS hk (i := 0)]
  show Rch _ _ _ _ _ _ (r0, x1, h2, D ++ (.inr (16, [.ref (8 * (k + (1 + (z + 1))) + 3), .int 0, .int 0, .int (nI (m + 1))]) :: ((Z ++ [.inl (.byte, m, .inl (bF tp f m))]) ++ [.inl (.byte, 2 * m + 2, .inl (bF tp f m))])))
  refine r_iload_n dJ11_append_3_39 rfl ?_
  refine r_i2b dJ11_append_3_40 ?_
  rw [let_b hx1]
  refine r_bastN dJ11_append_3_41 (dynG hk (i := 1 + (z + 1)) (zb_at hz1)) (by omega) (by omega) ?_
  rw [let_n hx1, dynS hk (i := 1 + (z + 1)), zb_set hz1]
  refine r_norm (bF tp f (m + 1)) (dynG hk (i := 1 + (z + 1)) (zb_at hz1)) (fun j _ => bF_upd) ?_
  rw [dynS hk (i := 1 + (z + 1)), zb_set hz1]
  refine r_goto 75 dJ11_append_3_42 (by decide) ?_
  refine r_aload_n dJ11_append_3_75 rfl ?_
  exact r_aret dJ11_append_3_76 rfl (by first | exact Or.inl ⟨_, rfl⟩ | exact Or.inr ⟨_, rfl⟩) (Nat.le_of_ble_eq_true rfl) hs1 (hQ)
theorem pJ12_append_g (hk : D.length = k) (hz : Z.length = z) (hm : m = 16 ∨ m = 34) (hx : ∀ j, j < m + 1 → letB (tp (f + j)) = true) (hQ : Q (some (.ref (8 * (k + 0) + 3))) (r0, x1, h2, D ++ (.inr (16, [.ref (8 * (k + (1 + (z + 1))) + 3), .int 0, .int 0, .int (nI (m + 1))]) :: ((Z ++ [.inl (.byte, m, .inl (bF tp f m))]) ++ [.inl (.byte, 2 * m + 2, .inl (bF tp f (m + 1)))])))) : AMet mJ12_append_3 5 1 (2 * m + 2) [.ref (8 * (k + 0) + 3), .int (tp (f + m))] (r0, x1, h2, D ++ (.inr (16, [.ref (8 * (k + (1 + z)) + 3), .int 0, .int 0, .int (nI m)]) :: (Z ++ [.inl (.byte, m, .inl (bF tp f m))]))) Q := by
  refine AMet.ofRch rfl rfl (Nat.le_of_ble_eq_true rfl) ?_
  have hs1 : 0 + (2 * m + 2) ≤ 2 * m + 2 := by omega
  refine r_aload_n dJ12_append_3_0 rfl ?_
  refine r_iload_n dJ12_append_3_1 rfl ?_
  refine r_callP (as := [_]) kcJ11_append_3 q1052 q2057 q768 (by decide) bJ12 (dynG hk (i := 0) rfl) q1051 dJ12_append_3_2 (Nat.le_of_ble_eq_true rfl) rfl (Nat.le_of_ble_eq_true rfl) (Nat.le_of_ble_eq_true rfl) hs1 (pJ11_append_g hk hz hm hx ?_)
  refine r_pop dJ12_append_3_5 rfl ?_
  refine r_aload_n dJ12_append_3_6 rfl ?_
  exact r_aret dJ12_append_3_7 rfl (by first | exact Or.inl ⟨_, rfl⟩ | exact Or.inr ⟨_, rfl⟩) (Nat.le_of_ble_eq_true rfl) hs1 (hQ)
end SB
