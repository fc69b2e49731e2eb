set_option maxRecDepth 100000
/-! StringBuilder and String as the reader uses them (Latin-1 alone) -/
theorem sel_priv {s : State} {args : Array Value} {Cn : String} {x y : MethodName} (h0 : (Cond.selects Cn x x).before args s = true) (hx : x.cls = y.cls) (hpriv : (Cond.privateMethod y).before args s = true) (hinst : (Cond.instanceMethod y).before args s = true) (hy : y.cls ≠ "java/lang/invoke/MethodHandle" ∧ y.cls ≠ "java/lang/invoke/VarHandle") : (Cond.selects Cn y y).before args s = true := by
  obtain ⟨c, r, m, hc, -, hm, -, k, hk, hni⟩ := Cond.selects_spec h0
  obtain ⟨mk, methM, hnamed, hmethM, -, -⟩ := Cond.instanceMethod_spec hinst
  have hfound : s.methodFound? y.cls y.name y.desc = some mk := State.methodFound?_of_named hnamed hy
  have e1 := findClass_of_methodNamed hm
  rw [hx] at e1
  have hcls : mk.cls = m.cls := Option.some.inj ((findClass_of_methodNamed hnamed).symm.trans e1)
  have hsel : selectMethod {} s.vm c mk = .method mk := selectMethod_private hmethM (Cond.privateMethod_at hpriv mk methM hnamed hmethM)
  simp only [Cond.before, Cond.holds, Cond.value, hc, hfound, hnamed, hsel, hcls, hk]
  simp; exact hni
/-- a private method of a class above the receiver's -/
theorem r_callR {J : Jb} {ce sl pc : Nat} {lv : List (Option Value)} {st : List Value} {h : AHp} {M : MI} {d mc ms n index : Nat} {as : List Value} {ci a : Nat} {fs : List Value} {N : Nat} {Cn : String} {T : u_T} {ty : Nat → FieldType} {x0 : MethodName} (ok : MkC M n) (hi : Cond.instanceMethod M.1 ∈ lw_all) (hsm : Cond.sameMethod M.1.cls M.1.cls M.1.name M.1.desc ∈ lw_all) (hs0 : Cond.selects Cn x0 x0 ∈ lw_all) (hx0 : x0.cls = M.1.cls) (hpv : Cond.privateMethod M.1 ∈ lw_tbl) (b : FB ci Cn T N ty) (hg : aGet h a = some (.inr (ci, fs))) (hq : Cond.methodLink J.1.1.cls index M.1 ∈ lw_all) (hd : decode J.1.2.1 pc = .ok (.invokevirtual index, 3)) (hdp : d + 1 ≤ J.2.1) (hn : as.length = n) (hcat : (st.map fun v => v.category).sum ≤ 8) (hc : ce + mc ≤ J.2.2.1) (hs : sl + ms ≤ J.2.2.2.1) (hM : AMet M d mc ms (.ref a :: as) h (fun r h' => Rch J (ce + mc) (sl + ms) (pc + 3) lv (r.toList ++ st) h')) : Rch J ce sl pc lv (as.reverse ++ .ref a :: st) h := by
  intro l G sg R p e s m args below meth c H locs ls hR C hl hH hS
  obtain ⟨q0, e1, -⟩ := wso_at (G := G) (sg := sg) (show kn (.inr (ci, fs)) = true from b.2.2.2.2) hg
  have ho : Old G s s.heap := C.2.2.2.2.2.2.2.2.1.2.2.2.2.2.2.2
  have K := ho.2.2.2
  have hsel : (Cond.selects Cn M.1 M.1).before args s = true := word_at ho.1 (Or.inl rfl) (sel_priv (K.1 _ (lw_all_tbl hs0)) hx0 (K.1 _ hpv) (K.1 _ (lw_all_tbl hi)) ⟨ok.2.2.1.1, ok.2.2.1.2.1⟩)
  have ht := C.2.2.2.2.2.1
  have hG : GoodIn lw_all (ws_ M.1 M.2.1 M.2.2.1 M.2.2.2.1) := lw_meth ok.1
  have hcm : Cond.code M.1 M.2.1 M.2.2.1 M.2.2.2.1 ∈ ws_ M.1 M.2.1 M.2.2.1 M.2.2.2.1 := List.mem_cons_self
  have hR2 := rmD_fits (mc := mc) (ms := ms) hR hdp ok.2.2.2
  refine Rch.back (st := st) (a := (Value.ref (sg a) :: as.map (rv sg)).toArray) (mc := mc) (ms := ms) hR C hl hS ?_
  exact va_runU (C := Cn) (owner := M.1.cls) (x := M.1) (As := as.map (rv sg)) (rest := st.map (rv sg)) (n := n) ⟨C.1, C.2.1, C.2.2.2.1, C.2.2.2.2.1, C.2.2.2.2.2.1⟩ (hM l G sg C.2.2.2.2.2.2.2.2.2.2.2) ⟨⟨rfl, rfl, hR2.1, hR2.2, pay_in ht hG, hcm⟩, ht _ ok.1, ht _ ok.2.1, ⟨ok.2.2.1.1, ok.2.2.1.2.1⟩, fun sig h => by have h2 := ok.2.2.1.2.2; rw [h] at h2; exact (Option.some.inj h2).symm, ht _ hq, ht _ hsm, va_Decl.of (ht _ hi) (ht _ ok.1), hsel, ht _ hi⟩ ⟨Pm.blind, va_recv C.2.2.2.2.2.2.2.2.1.1 hH.1 b.1 e1, fun U hU hW => ⟨rfl, C.2.2.2.2.2.2.2.2.1.next hW C.2.2.2.2.2.2.2.2.2.1 (by rw [hU]; exact hS), by rw [hU]; exact hH.2.2.1, by rw [hU]; exact hH⟩⟩ rfl (by simpa using hn) hl.1 (by simp [rv]) (lv_room (by rw [cat_map]; exact hcat)) hd ⟨Nat.le_trans hc hR.2.2.1, Nat.le_trans hs hR.2.2.2⟩
section BB
variable {Q : Option Value → AHp → Prop} {h : AHp} {a v : Nat}
theorem pJ11_isLatin1 {vv ml c : Value} (hg : aGet h a = some (.inr (16, [vv, .int 0, ml, c]))) (hQ : Q (some (.int 1)) h) : AMet mJ11_isLatin1 1 0 0 [.ref a] h Q := by
  refine AMet.ofRch rfl rfl (Nat.le_of_ble_eq_true rfl) ?_
  refine r_getsC [false, false, false, false, false, false, false, true, false, false] rfl q743 (lw_all_tbl q94) q742 dJ11_isLatin1_0 ?_
  refine r_if_eq 17 dJ11_isLatin1_3 (by decide) (fun c_ => absurd c_ (by decide)) (fun _ => ?_)
  refine r_aload_n dJ11_isLatin1_6 rfl ?_
  refine r_get bJ12 1 (by decide) q757 dJ11_isLatin1_7 hg rfl ?_
  refine r_if_ne 17 dJ11_isLatin1_10 (by decide) (fun c_ => absurd (rfl) c_) (fun _ => ?_)
  refine r_iconst 1 dJ11_isLatin1_13 (by decide) ?_
  refine r_goto 18 dJ11_isLatin1_14 (by decide) ?_
  exact r_zret (ty := .boolean) dJ11_isLatin1_18 rfl (rfl) (Nat.le_of_ble_eq_true rfl) (Nat.le_of_ble_eq_true rfl) (hQ)
theorem pJ11_getValue {co ml c : Value} (hg : aGet h a = some (.inr (16, [.ref v, co, ml, c]))) (hQ : Q (some (.ref v)) h) : AMet mJ11_getValue 1 0 0 [.ref a] h Q := by
  refine AMet.ofRch rfl rfl (Nat.le_of_ble_eq_true rfl) ?_
  refine r_aload_n dJ11_getValue_0 rfl ?_
  refine r_get bJ12 0 (by decide) q756 dJ11_getValue_1 hg rfl ?_
  exact r_aret dJ11_getValue_4 rfl (by first | exact Or.inl ⟨_, rfl⟩ | exact Or.inr ⟨_, rfl⟩) (Nat.le_of_ble_eq_true rfl) (Nat.le_of_ble_eq_true rfl) (hQ)
theorem pJ11_length {vv co ml : Value} {c : Int32} (hg : aGet h a = some (.inr (16, [vv, co, ml, .int c]))) (hQ : Q (some (.int c)) h) : AMet mJ11_length 1 0 0 [.ref a] h Q := by
  refine AMet.ofRch rfl rfl (Nat.le_of_ble_eq_true rfl) ?_
  refine r_aload_n dJ11_length_0 rfl ?_
  refine r_get bJ12 3 (by decide) q759 dJ11_length_1 hg rfl ?_
  exact r_iret dJ11_length_4 rfl (Nat.le_of_ble_eq_true rfl) (Nat.le_of_ble_eq_true rfl) (hQ)
theorem pJ12_length {vv co ml : Value} {c : Int32} (hg : aGet h a = some (.inr (16, [vv, co, ml, .int c]))) (hQ : Q (some (.int c)) h) : AMet mJ12_length 2 0 0 [.ref a] h Q := by
  refine AMet.ofRch rfl rfl (Nat.le_of_ble_eq_true rfl) ?_
  refine r_aload_n dJ12_length_0 rfl ?_
  refine r_callP (as := []) kcJ11_length q931 q932 q768 (by decide) bJ12 hg q936 dJ12_length_1 (Nat.le_of_ble_eq_true rfl) rfl (Nat.le_of_ble_eq_true rfl) (Nat.le_of_ble_eq_true rfl) (Nat.le_of_ble_eq_true rfl) (pJ11_length hg ?_)
  exact r_iret dJ12_length_4 rfl (Nat.le_of_ble_eq_true rfl) (Nat.le_of_ble_eq_true rfl) (hQ)
theorem pJ17_canEncode {x : Int32} (hx : ¬ 255 < x) (hQ : Q (some (.int 1)) h) : AMet mJ17_canEncode 1 0 0 [.int x] h Q := by
  refine AMet.ofRch rfl rfl (Nat.le_of_ble_eq_true rfl) ?_
  refine r_iload_n dJ17_canEncode_0 rfl ?_
  refine r_sipush 255 dJ17_canEncode_1 (by decide) ?_
  refine r_icmp_gt 11 dJ17_canEncode_4 (by decide) (fun c_ => absurd c_ (hx)) (fun _ => ?_)
  refine r_iconst 1 dJ17_canEncode_7 (by decide) ?_
  refine r_goto 12 dJ17_canEncode_8 (by decide) ?_
  exact r_zret (ty := .boolean) dJ17_canEncode_12 rfl (rfl) (Nat.le_of_ble_eq_true rfl) (Nat.le_of_ble_eq_true rfl) (hQ)
theorem le0 {n m : Nat} (hn : n ≤ m) (hm : m ≤ 1000) : nI n - Int32.ofNat m ≤ 0 := by
  have e1 : (nI n - Int32.ofNat m).toInt = (n : Int) - m := pk_sub_toInt (by omega) (by omega)
  rw [Int32.le_iff_toInt_le, e1, Int32.toInt_zero]
  omega
theorem gt0 {n m : Nat} (hn : m < n) (hm : n ≤ 1000) : ¬ nI n - Int32.ofNat m ≤ 0 := by
  have e1 : (nI n - Int32.ofNat m).toInt = (n : Int) - m := pk_sub_toInt (by omega) (by omega)
  rw [Int32.le_iff_toInt_le, e1, Int32.toInt_zero]
  omega
theorem pJ11_ensure_k {ml c : Value} {m n : Nat} {g : Nat → Int32} (h0 : aGet h a = some (.inr (16, [.ref v, .int 0, ml, c]))) (h1 : aGet h v = some (.inl (.byte, m, .inl g))) (hn : n ≤ m) (hm : m ≤ 1000) (hQ : Q none h) : AMet mJ11_ensureCapacityInternal 1 0 0 [.ref a, .int (nI n)] h Q := by
  refine AMet.ofRch rfl rfl (Nat.le_of_ble_eq_true rfl) ?_
  refine r_aload_n dJ11_ensureCapacityInternal_0 rfl ?_
  refine r_get bJ12 0 (by decide) q756 dJ11_ensureCapacityInternal_1 h0 rfl ?_
  refine r_alen dJ11_ensureCapacityInternal_4 h1 2 rfl ?_
  refine r_aload_n dJ11_ensureCapacityInternal_5 rfl ?_
  refine r_get bJ12 1 (by decide) q757 dJ11_ensureCapacityInternal_6 h0 rfl ?_
  refine r_ishr dJ11_ensureCapacityInternal_9 ?_
  rw [sb_shr0]
  refine r_istore_n dJ11_ensureCapacityInternal_10 (Nat.le_of_ble_eq_true rfl) ?_
  refine r_iload_n dJ11_ensureCapacityInternal_11 rfl ?_
  refine r_iload_n dJ11_ensureCapacityInternal_12 rfl ?_
  refine r_isub dJ11_ensureCapacityInternal_13 ?_
  refine r_if_le 38 dJ11_ensureCapacityInternal_14 (by decide) (fun _ => ?_) (fun c_ => absurd (le0 hn hm) c_)
  exact r_vret dJ11_ensureCapacityInternal_38 rfl (Nat.le_of_ble_eq_true rfl) (Nat.le_of_ble_eq_true rfl) (hQ)
theorem pJ14_newLength {x y w r : Int32} (hr : x + mxF y w = r) (h1 : ¬ r ≤ 0) (h2 : ¬ 2147483639 < r) (hQ : Q (some (.int r)) h) : AMet mJ14_newLength 1 0 0 [.int x, .int y, .int w] h Q := by
  refine AMet.ofRch rfl rfl (Nat.le_of_ble_eq_true rfl) ?_
  refine r_iload_n dJ14_newLength_0 rfl ?_
  refine r_iload_n dJ14_newLength_1 rfl ?_
  refine r_iload_n dJ14_newLength_2 rfl ?_
  refine r_mmax q792 dJ14_newLength_3 (Nat.le_of_ble_eq_true rfl) (Nat.le_of_ble_eq_true rfl) (Nat.le_of_ble_eq_true rfl) ?_
  refine r_iadd dJ14_newLength_6 ?_
  rw [hr]
  refine r_istore_n dJ14_newLength_7 (Nat.le_of_ble_eq_true rfl) ?_
  refine r_iconst 0 dJ14_newLength_8 (by decide) ?_
  refine r_iload_n dJ14_newLength_9 rfl ?_
  refine r_icmp_ge 21 dJ14_newLength_10 (by decide) (fun c_ => absurd c_ (h1)) (fun _ => ?_)
  refine r_iload_n dJ14_newLength_13 rfl ?_
  refine r_ldc q795 dJ14_newLength_14 ?_
  refine r_icmp_gt 21 dJ14_newLength_16 (by decide) (fun c_ => absurd c_ (h2)) (fun _ => ?_)
  refine r_iload_n dJ14_newLength_19 rfl ?_
  exact r_iret dJ14_newLength_20 rfl (Nat.le_of_ble_eq_true rfl) (Nat.le_of_ble_eq_true rfl) (hQ)
theorem pJ11_newCap {ml c : Value} {m : Nat} {g : Nat → Int32} (h0 : aGet h a = some (.inr (16, [.ref v, .int 0, ml, c]))) (h1 : aGet h v = some (.inl (.byte, m, .inl g))) (hm : m = 16 ∨ m = 34) (hQ : Q (some (.int (nI (2 * m + 2)))) h) : AMet mJ11_newCapacity 2 0 0 [.ref a, .int (nI (m + 1))] h Q := by
  refine AMet.ofRch rfl rfl (Nat.le_of_ble_eq_true rfl) ?_
  rcases hm with rfl | rfl
  · refine r_aload_n dJ11_newCapacity_0 rfl ?_
    refine r_get bJ12 0 (by decide) q756 dJ11_newCapacity_1 h0 rfl ?_
    refine r_alen dJ11_newCapacity_4 h1 2 rfl ?_
    refine r_istore_n dJ11_newCapacity_5 (Nat.le_of_ble_eq_true rfl) ?_
    refine r_iload_n dJ11_newCapacity_6 rfl ?_
    refine r_aload_n dJ11_newCapacity_7 rfl ?_
    refine r_get bJ12 1 (by decide) q757 dJ11_newCapacity_8 h0 rfl ?_
    refine r_ishl dJ11_newCapacity_11 ?_
    refine r_istore_n dJ11_newCapacity_12 (Nat.le_of_ble_eq_true rfl) ?_
    refine r_iload_n dJ11_newCapacity_13 rfl ?_
    refine r_iload_n dJ11_newCapacity_14 rfl ?_
    refine r_isub dJ11_newCapacity_15 ?_
    refine r_istore dJ11_newCapacity_16 (Nat.le_of_ble_eq_true rfl) ?_
    refine r_iload_n dJ11_newCapacity_18 rfl ?_
    refine r_iload dJ11_newCapacity_19 rfl ?_
    refine r_iload_n dJ11_newCapacity_21 rfl ?_
    refine r_iconst 2 dJ11_newCapacity_22 (by decide) ?_
    refine r_aload_n dJ11_newCapacity_23 rfl ?_
    refine r_get bJ12 1 (by decide) q757 dJ11_newCapacity_24 h0 rfl ?_
    refine r_ishl dJ11_newCapacity_27 ?_
    refine r_iadd dJ11_newCapacity_28 ?_
    refine r_callS (as := [_, _, _]) okJ14_newLength q789 dJ11_newCapacity_29 (Nat.le_of_ble_eq_true rfl) rfl (Nat.le_of_ble_eq_true rfl) (Nat.le_of_ble_eq_true rfl) (Nat.le_of_ble_eq_true rfl) (pJ14_newLength (r := nI (2 * 16 + 2)) (by decide) (by decide) (by decide) ?_)
    refine r_istore dJ11_newCapacity_32 (Nat.le_of_ble_eq_true rfl) ?_
    refine r_iload dJ11_newCapacity_34 rfl ?_
    refine r_ldc q799 dJ11_newCapacity_36 ?_
    refine r_icmp_ne 51 dJ11_newCapacity_38 (by decide) (fun _ => ?_) (fun c_ => absurd c_ (by decide))
    refine r_iload dJ11_newCapacity_51 rfl ?_
    refine r_aload_n dJ11_newCapacity_53 rfl ?_
    refine r_get bJ12 1 (by decide) q757 dJ11_newCapacity_54 h0 rfl ?_
    refine r_ishr dJ11_newCapacity_57 ?_
    rw [sb_shr0]
    exact r_iret dJ11_newCapacity_58 rfl (Nat.le_of_ble_eq_true rfl) (Nat.le_of_ble_eq_true rfl) (hQ)
  · refine r_aload_n dJ11_newCapacity_0 rfl ?_
    refine r_get bJ12 0 (by decide) q756 dJ11_newCapacity_1 h0 rfl ?_
    refine r_alen dJ11_newCapacity_4 h1 2 rfl ?_
    refine r_istore_n dJ11_newCapacity_5 (Nat.le_of_ble_eq_true rfl) ?_
    refine r_iload_n dJ11_newCapacity_6 rfl ?_
    refine r_aload_n dJ11_newCapacity_7 rfl ?_
    refine r_get bJ12 1 (by decide) q757 dJ11_newCapacity_8 h0 rfl ?_
    refine r_ishl dJ11_newCapacity_11 ?_
    refine r_istore_n dJ11_newCapacity_12 (Nat.le_of_ble_eq_true rfl) ?_
    refine r_iload_n dJ11_newCapacity_13 rfl ?_
    refine r_iload_n dJ11_newCapacity_14 rfl ?_
    refine r_isub dJ11_newCapacity_15 ?_
    refine r_istore dJ11_newCapacity_16 (Nat.le_of_ble_eq_true rfl) ?_
    refine r_iload_n dJ11_newCapacity_18 rfl ?_
    refine r_iload dJ11_newCapacity_19 rfl ?_
    refine r_iload_n dJ11_newCapacity_21 rfl ?_
    refine r_iconst 2 dJ11_newCapacity_22 (by decide) ?_
    refine r_aload_n dJ11_newCapacity_23 rfl ?_
    refine r_get bJ12 1 (by decide) q757 dJ11_newCapacity_24 h0 rfl ?_
    refine r_ishl dJ11_newCapacity_27 ?_
    refine r_iadd dJ11_newCapacity_28 ?_
    refine r_callS (as := [_, _, _]) okJ14_newLength q789 dJ11_newCapacity_29 (Nat.le_of_ble_eq_true rfl) rfl (Nat.le_of_ble_eq_true rfl) (Nat.le_of_ble_eq_true rfl) (Nat.le_of_ble_eq_true rfl) (pJ14_newLength (r := nI (2 * 34 + 2)) (by decide) (by decide) (by decide) ?_)
    refine r_istore dJ11_newCapacity_32 (Nat.le_of_ble_eq_true rfl) ?_
    refine r_iload dJ11_newCapacity_34 rfl ?_
    refine r_ldc q799 dJ11_newCapacity_36 ?_
    refine r_icmp_ne 51 dJ11_newCapacity_38 (by decide) (fun _ => ?_) (fun c_ => absurd c_ (by decide))
    refine r_iload dJ11_newCapacity_51 rfl ?_
    refine r_aload_n dJ11_newCapacity_53 rfl ?_
    refine r_get bJ12 1 (by decide) q757 dJ11_newCapacity_54 h0 rfl ?_
    refine r_ishr dJ11_newCapacity_57 ?_
    rw [sb_shr0]
    exact r_iret dJ11_newCapacity_58 rfl (Nat.le_of_ble_eq_true rfl) (Nat.le_of_ble_eq_true rfl) (hQ)
end BB
section DD
variable {Q : Option Value → AHp → Prop} {r0 x1 h2 D : List AC} {k v : Nat} {g g' : Nat → Int32} {m n q : Nat}
theorem mn_l {m q : Nat} (h : m ≤ q) (hq : q ≤ 1000) : mnF (Int32.ofNat m) (nI q) = nI m := if_neg (nI_nlt (by omega) (by omega))
theorem mn_r {m q : Nat} (h : q ≤ m) (hq : m ≤ 1000) : mnF (Int32.ofNat m) (nI q) = nI q := by
  unfold mnF
  by_cases g : q = m
  · rw [g]; exact if_neg (fun z => Int32.lt_irrefl z)
  · exact if_pos (nI_lt (by omega) (by omega))
theorem cpy_at {g : Nat → Int32} {m j : Nat} (hm : m ≤ 1000) : va_cpy g (fun _ => 0) (0 : Int32).toNatClampNeg (0 : Int32).toNatClampNeg (nI m).toNatClampNeg j = if j < m then g j else 0 := by
  rw [nI_clamp (by omega), sb_cl0]
  unfold va_cpy
  by_cases h : j < m
  · rw [if_pos ⟨by omega, by omega⟩, if_pos h]; congr 1; omega
  · rw [if_neg (by omega), if_neg h]
theorem pJ0_copyOf (hk : D.length = k) (h1 : aGet (r0, x1, h2, D) v = some (.inl (.byte, m, .inl g))) (hm : m < q) (hq : q ≤ 1000) (hf : ∀ j, j < m → fits .byte (.int (g j)) = true) (hg' : ∀ j, j < q → (if j < m then g j else 0) = g' j) (hQ : Q (some (.ref (8 * (k + 0) + 3))) (r0, x1, h2, D ++ [.inl (.byte, q, .inl g')])) : AMet mJ0_copyOf 1 1 q [.ref v, .int (nI q)] (r0, x1, h2, D) Q := by
  refine AMet.ofRch rfl rfl (Nat.le_of_ble_eq_true rfl) ?_
  subst hk
  refine r_iload_n dJ0_copyOf_0 rfl ?_
  refine r_aload_n dJ0_copyOf_1 rfl ?_
  refine r_alen dJ0_copyOf_2 h1 2 rfl ?_
  refine r_icmp_ne 14 dJ0_copyOf_3 (by decide) (fun _ => ?_) (fun c_ => absurd c_ (fun z => by have := (nI_eq (by omega) (by omega)).mp (show nI q = nI m from z); omega))
  refine r_iload_n dJ0_copyOf_14 rfl ?_
  refine r_newa_byte q q370 dJ0_copyOf_15 (nI_pos (by omega)) (nI_clamp (by omega)) (by omega) (Nat.le_of_ble_eq_true rfl) (by show _ ≤ q; omega) ?_
  show Rch _ _ _ _ _ (.ref (8 * (D.length + 0) + 3) :: _) (r0, x1, h2, D ++ [.inl (.byte, q, .inl (fun _ => 0))])
  refine r_astore_n dJ0_copyOf_17 (Nat.le_of_ble_eq_true rfl) ?_
  refine r_aload_n dJ0_copyOf_18 rfl ?_
  refine r_iconst 0 dJ0_copyOf_19 (by decide) ?_
  refine r_aload_n dJ0_copyOf_20 rfl ?_
  refine r_iconst 0 dJ0_copyOf_21 (by decide) ?_
  refine r_aload_n dJ0_copyOf_22 rfl ?_
  refine r_alen dJ0_copyOf_23 (dyn_other h1) 2 rfl ?_
  refine r_iload_n dJ0_copyOf_24 rfl ?_
  refine r_mmin q810 dJ0_copyOf_25 (Nat.le_of_ble_eq_true rfl) (Nat.le_of_ble_eq_true rfl) (by show _ ≤ q; omega) ?_
  rw [mn_l (by omega) hq]
  refine r_copyi 2 rfl rfl q813 dJ0_copyOf_28 (dyn_other h1) (dynG rfl (i := 0) rfl) (by decide) (by decide) (nI_pos (by omega)) (by rw [nI_clamp (by omega), sb_cl0]; omega) (by rw [nI_clamp (by omega), sb_cl0]; omega) (fun i hi => by rw [nI_clamp (by omega)] at hi; rw [sb_cl0, Nat.zero_add]; exact hf i hi) (Nat.le_of_ble_eq_true rfl) ?_
  rw [dynS rfl (i := 0)]
  refine r_norm g' (dynG rfl (i := 0) rfl) (fun j hj => (cpy_at (by omega)).trans (hg' j hj)) ?_
  rw [dynS rfl (i := 0)]
  show Rch _ _ _ _ _ _ (r0, x1, h2, D ++ [.inl (.byte, q, .inl g')])
  refine r_aload_n dJ0_copyOf_31 rfl ?_
  exact r_aret dJ0_copyOf_32 rfl (by first | exact Or.inl ⟨_, rfl⟩ | exact Or.inr ⟨_, rfl⟩) (Nat.le_of_ble_eq_true rfl) (by show _ ≤ q; omega) (hQ)
theorem pJ0_checkLength {h : AHp} {n : Nat} (hn : n ≤ 1000) (hQ : Q none h) : AMet mJ0_checkLength 1 0 0 [.int 0, .int (nI n)] h Q := by
  refine AMet.ofRch rfl rfl (Nat.le_of_ble_eq_true rfl) ?_
  refine r_iload_n dJ0_checkLength_0 rfl ?_
  refine r_iload_n dJ0_checkLength_1 rfl ?_
  refine r_icmp_ge 37 dJ0_checkLength_2 (by decide) (fun _ => ?_) (fun c_ => absurd (Int32.not_lt.mp (nI_pos (by omega))) c_)
  exact r_vret dJ0_checkLength_37 rfl (Nat.le_of_ble_eq_true rfl) (Nat.le_of_ble_eq_true rfl) (hQ)
theorem pJ0_copyOfRangeByte (hk : D.length = k) (h1 : aGet (r0, x1, h2, D) v = some (.inl (.byte, m, .inl g))) (hn : n ≤ m) (hm : m ≤ 1000) (hf : ∀ j, j < n → fits .byte (.int (g j)) = true) (hg' : ∀ j, j < n → g j = g' j) (hQ : Q (some (.ref (8 * (k + 0) + 3))) (r0, x1, h2, D ++ [.inl (.byte, n, .inl g')])) : AMet mJ0_copyOfRangeByte 2 1 n [.ref v, .int 0, .int (nI n)] (r0, x1, h2, D) Q := by
  refine AMet.ofRch rfl rfl (Nat.le_of_ble_eq_true rfl) ?_
  subst hk
  refine r_iload_n dJ0_copyOfRangeByte_0 rfl ?_
  refine r_iload_n dJ0_copyOfRangeByte_1 rfl ?_
  refine r_callS (as := [_, _]) okJ0_checkLength q945 dJ0_copyOfRangeByte_2 (Nat.le_of_ble_eq_true rfl) rfl (Nat.le_of_ble_eq_true rfl) (Nat.le_of_ble_eq_true rfl) (Nat.le_of_ble_eq_true rfl) (pJ0_checkLength (by omega) ?_)
  refine r_iload_n dJ0_copyOfRangeByte_5 rfl ?_
  refine r_iload_n dJ0_copyOfRangeByte_6 rfl ?_
  refine r_isub dJ0_copyOfRangeByte_7 ?_
  rw [Int32.sub_zero]
  refine r_istore_n dJ0_copyOfRangeByte_8 (Nat.le_of_ble_eq_true rfl) ?_
  refine r_iload_n dJ0_copyOfRangeByte_9 rfl ?_
  refine r_newa_byte n q370 dJ0_copyOfRangeByte_10 (nI_pos (by omega)) (nI_clamp (by omega)) (by omega) (Nat.le_of_ble_eq_true rfl) (by show _ ≤ n; omega) ?_
  show Rch _ _ _ _ _ (.ref (8 * (D.length + 0) + 3) :: _) (r0, x1, h2, D ++ [.inl (.byte, n, .inl (fun _ => 0))])
  refine r_astore dJ0_copyOfRangeByte_12 (Nat.le_of_ble_eq_true rfl) ?_
  refine r_aload_n dJ0_copyOfRangeByte_14 rfl ?_
  refine r_iload_n dJ0_copyOfRangeByte_15 rfl ?_
  refine r_aload dJ0_copyOfRangeByte_16 rfl ?_
  refine r_iconst 0 dJ0_copyOfRangeByte_18 (by decide) ?_
  refine r_aload_n dJ0_copyOfRangeByte_19 rfl ?_
  refine r_alen dJ0_copyOfRangeByte_20 (dyn_other h1) 2 rfl ?_
  refine r_iload_n dJ0_copyOfRangeByte_21 rfl ?_
  refine r_isub dJ0_copyOfRangeByte_22 ?_
  rw [Int32.sub_zero]
  refine r_iload_n dJ0_copyOfRangeByte_23 rfl ?_
  refine r_mmin q810 dJ0_copyOfRangeByte_24 (Nat.le_of_ble_eq_true rfl) (Nat.le_of_ble_eq_true rfl) (by show _ ≤ n; omega) ?_
  rw [mn_r hn hm]
  refine r_copyi 2 rfl rfl q813 dJ0_copyOfRangeByte_27 (dyn_other h1) (dynG rfl (i := 0) rfl) (by decide) (by decide) (nI_pos (by omega)) (by rw [nI_clamp (by omega), sb_cl0]; omega) (by rw [nI_clamp (by omega), sb_cl0]; omega) (fun i hi => by rw [nI_clamp (by omega)] at hi; rw [sb_cl0, Nat.zero_add]; exact hf i hi) (Nat.le_of_ble_eq_true rfl) ?_
  rw [dynS rfl (i := 0)]
  refine r_norm g' (dynG rfl (i := 0) rfl) (fun j hj => (cpy_at (by omega)).trans (by rw [if_pos hj]; exact hg' j hj)) ?_
  rw [dynS rfl (i := 0)]
  show Rch _ _ _ _ _ _ (r0, x1, h2, D ++ [.inl (.byte, n, .inl g')])
  refine r_aload dJ0_copyOfRangeByte_30 rfl ?_
  exact r_aret dJ0_copyOfRangeByte_32 rfl (by first | exact Or.inl ⟨_, rfl⟩ | exact Or.inr ⟨_, rfl⟩) (Nat.le_of_ble_eq_true rfl) (by show _ ≤ n; omega) (hQ)
theorem pJ0_copyOfRange (hk : D.length = k) (h1 : aGet (r0, x1, h2, D) v = some (.inl (.byte, m, .inl g))) (hn : n ≤ m) (hm : m ≤ 1000) (hf : ∀ j, j < n → fits .byte (.int (g j)) = true) (hg' : ∀ j, j < n → g j = g' j) (hQ : Q (some (.ref (8 * (k + 0) + 3))) (r0, x1, h2, D ++ [.inl (.byte, n, .inl g')])) : AMet mJ0_copyOfRange 3 1 n [.ref v, .int 0, .int (nI n)] (r0, x1, h2, D) Q := by
  refine AMet.ofRch rfl rfl (Nat.le_of_ble_eq_true rfl) ?_
  by_cases e : n = m
  · subst e
    subst hk
    refine r_iload_n dJ0_copyOfRange_0 rfl ?_
    refine r_if_ne 10 dJ0_copyOfRange_1 (by decide) (fun c_ => absurd (rfl) c_) (fun _ => ?_)
    refine r_iload_n dJ0_copyOfRange_4 rfl ?_
    refine r_aload_n dJ0_copyOfRange_5 rfl ?_
    refine r_alen dJ0_copyOfRange_6 h1 2 rfl ?_
    refine r_icmp_eq 17 dJ0_copyOfRange_7 (by decide) (fun _ => ?_) (fun c_ => absurd (rfl) c_)
    refine r_aload_n dJ0_copyOfRange_17 rfl ?_
    refine r_cloneB q803 q804 q805 q806 q807 q808 dJ0_copyOfRange_18 h1 hf (Nat.le_of_ble_eq_true rfl) (Nat.le_of_ble_eq_true rfl) (by show _ ≤ n; omega) ?_
    show Rch _ _ _ _ _ (.ref (8 * (D.length + 0) + 3) :: _) (r0, x1, h2, D ++ [.inl (.byte, n, .inl g)])
    refine r_norm g' (dynG rfl (i := 0) rfl) hg' ?_
    rw [dynS rfl (i := 0)]
    show Rch _ _ _ _ _ _ (r0, x1, h2, D ++ [.inl (.byte, n, .inl g')])
    refine r_castE (isA_arr (nm := "[B") (ty := .byte) (by decide) (dynG rfl (i := 0) rfl)) q809 dJ0_copyOfRange_21 ?_
    exact r_aret dJ0_copyOfRange_24 rfl (by first | exact Or.inl ⟨_, rfl⟩ | exact Or.inr ⟨_, rfl⟩) (Nat.le_of_ble_eq_true rfl) (by show _ ≤ n; omega) (hQ)
  · refine r_iload_n dJ0_copyOfRange_0 rfl ?_
    refine r_if_ne 10 dJ0_copyOfRange_1 (by decide) (fun c_ => absurd (rfl) c_) (fun _ => ?_)
    refine r_iload_n dJ0_copyOfRange_4 rfl ?_
    refine r_aload_n dJ0_copyOfRange_5 rfl ?_
    refine r_alen dJ0_copyOfRange_6 h1 2 rfl ?_
    refine r_icmp_eq 17 dJ0_copyOfRange_7 (by decide) (fun c_ => absurd c_ (fun z => e ((nI_eq (by omega) (by omega)).mp (show nI n = nI m from z)))) (fun _ => ?_)
    refine r_aload_n dJ0_copyOfRange_10 rfl ?_
    refine r_iload_n dJ0_copyOfRange_11 rfl ?_
    refine r_iload_n dJ0_copyOfRange_12 rfl ?_
    refine r_callS (as := [_, _, _]) okJ0_copyOfRangeByte q942 dJ0_copyOfRange_13 (Nat.le_of_ble_eq_true rfl) rfl (Nat.le_of_ble_eq_true rfl) (Nat.le_of_ble_eq_true rfl) (by show _ ≤ n; omega) (pJ0_copyOfRangeByte hk h1 hn hm hf hg' ?_)
    exact r_aret dJ0_copyOfRange_16 rfl (by first | exact Or.inl ⟨_, rfl⟩ | exact Or.inr ⟨_, rfl⟩) (Nat.le_of_ble_eq_true rfl) (by show _ ≤ n; omega) (hQ)
end DD
