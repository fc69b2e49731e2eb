set_option maxRecDepth 100000
/-! the component: what is asked of evenings -/
theorem or_tab : (List.range 12).all (fun n => (List.range (2 ^ n)).all (fun z => decide (nI z ||| (1 <<< (nI n &&& 31)) = nI (z + 2 ^ n)))) = true := by decide +kernel
theorem bits_ex (c : Nat → Bool) : ∀ n, n ≤ 12 → ∃ z, z < 2 ^ n ∧ bitsI c n = nI z
  | 0, _ => ⟨0, by decide, rfl⟩
  | n + 1, h => by
    obtain ⟨z, hz, e⟩ := bits_ex c n (by omega)
    have e2 : 2 ^ (n + 1) = 2 ^ n + 2 ^ n := by rw [Nat.pow_succ]; omega
    simp only [bitsI]
    rw [e]
    split
    · have h1 := List.all_eq_true.mp or_tab n (List.mem_range.mpr (by omega))
      have h2 := List.all_eq_true.mp h1 z (List.mem_range.mpr hz)
      exact ⟨z + 2 ^ n, by omega, of_decide_eq_true h2⟩
    · exact ⟨z, by omega, or0 _⟩
theorem bc_bits {c : Nat → Bool} {n : Nat} (hn : n ≤ 8) : bcF (bitsI c n) = nI (cntI c n) := by
  obtain ⟨z, hz, e⟩ := bits_ex c n (by omega)
  rw [e, bc_cnt hn hz, ← e]
  congr 1
  exact cntI_congr n (fun j hj => bits_has n (by omega) hj)
theorem hi_tab : (List.range 9).all (fun n => (List.range (2 ^ n)).all (fun z => (List.range 8).all (fun m => decide (n ≤ m → hasB (nI z) (nI m) = false)))) = true := by decide +kernel
theorem hi_tab2 {n z m : Nat} (hn : n ≤ 8) (hz : z < 2 ^ n) (h : n ≤ m) (hm : m < 8) : hasB (nI z) (nI m) = false := by
  have h1 := List.all_eq_true.mp hi_tab n (List.mem_range.mpr (by omega))
  have h2 := List.all_eq_true.mp h1 z (List.mem_range.mpr hz)
  have h3 := List.all_eq_true.mp h2 m (List.mem_range.mpr hm)
  exact (of_decide_eq_true h3) h
theorem an_tab : (List.range 9).all (fun n => (List.range (2 ^ n)).all (fun z => (List.range n).all (fun m => decide (hasB (allS n &&& (nI z ^^^ (-1))) (nI m) = !hasB (nI z) (nI m))))) = true := by decide +kernel
theorem has_anot {n z m : Nat} (hn : n ≤ 8) (hz : z < 2 ^ n) (hm : m < n) : hasB (allS n &&& (nI z ^^^ (-1))) (nI m) = !hasB (nI z) (nI m) := by
  have h1 := List.all_eq_true.mp an_tab n (List.mem_range.mpr (by omega))
  have h2 := List.all_eq_true.mp h1 z (List.mem_range.mpr hz)
  have h3 := List.all_eq_true.mp h2 m (List.mem_range.mpr hm)
  exact of_decide_eq_true h3
theorem al_tab : (List.range 9).all (fun n => (List.range n).all (fun m => decide (hasB (allS n) (nI m) = true))) = true := by decide +kernel
theorem has_all {n m : Nat} (hn : n ≤ 8) (hm : m < n) : hasB (allS n) (nI m) = true := by
  have h1 := List.all_eq_true.mp al_tab n (List.mem_range.mpr (by omega))
  have h3 := List.all_eq_true.mp h1 m (List.mem_range.mpr hm)
  exact of_decide_eq_true h3
theorem m1_tab : (List.range 12).all (fun q => decide ((((1 : Int32) <<< ((-1) &&& 31)) ^^^ -1) >>> (nI q &&& 31) &&& 1 = 1)) = true := by decide +kernel
theorem has_cm1 {t : Int32} {q : Nat} (hq : q < 12) : hasB (t &&& (((1 : Int32) <<< ((-1 : Int32) &&& 31)) ^^^ (-1))) (nI q) = hasB t (nI q) := by
  have h2 := of_decide_eq_true (List.all_eq_true.mp m1_tab q (List.mem_range.mpr hq))
  unfold hasB
  rw [and_sar, Int32.and_assoc, h2]
theorem ord_step {ag : Nat → Int32} {s : Int32} {n : Nat} {L : List Nat} (hn : n ≤ 12) (h : ordL ag s n = L) : ordL ag (s &&& ((1 <<< (hdO L &&& 31)) ^^^ -1)) n = L.tail := by
  cases L with
  | nil => exact (ordL_congr n (fun j hj => has_cm1 (by omega))).trans h
  | cons x xs => exact ordL_tail n x xs hn h
theorem hd_drop {L : List Nat} {q : Nat} (h : q < L.length) : hdO (L.drop q) = nI (L.getD q 0) := by
  rw [List.drop_eq_getElem_cons h, List.getD_eq_getElem?_getD, List.getElem?_eq_getElem h]
  rfl
theorem inB_allS {n : Nat} {s : Int32} (hn : n ≤ 8) (h : inB s 0 (allS n) = true) : ∃ z, z < 2 ^ n ∧ s = nI z := by
  obtain ⟨z, hz, e⟩ := inB_ex (2 ^ n - 1) (nI_toInt (by have := p2_le hn; omega)) h
  exact ⟨z, by have := p2_pos n; omega, e⟩
section XX
variable {iv : Value} {tP : Nat → Int32} {tL : Nat → Option Nat} {tA tK tC tS tH : Nat → Int32} {tN tE tZ tf : Int32} {mP : Nat → Int32} {mf : Int32} {eP eT eF : Nat → Int32} {ef eg : Int32} {ew : Value} {rx gx wx : Nat → Int32} {hv : Nat → Value} {tp : Nat → Int32} {td : Int32} {rf : Nat → Int32} {rc ic : Nat → AC} {th : Nat → Int32} {pf : Int32} {nl : Nat → Option Nat} {ag lk co sh hs : Nat → Int32} {my ev se : Int32} {lc : Nat → AC} {r0 r3 : List AC} {Q : Option Value → AHp → Prop} {n : Nat} {kN : Nat → Nat} {ow : Nat → Int32}
theorem pX0_no {c : Int32} (k : Nat) (hk : k < 7) (he : -c = nI k) {h2 : List AC} (hQ : Q (some (.int c)) (r0, (xC (.ref 2) iv tP tL tA tK tC tS tH tN tE tZ tf mP mf eP eT eF ef eg ew rx gx wx hv tp td (upd rf k (rf k + 1)) rc ic), h2, r3)) : AMet mX0_no 1 0 0 [.ref 1, .int c] (r0, (xC (.ref 2) iv tP tL tA tK tC tS tH tN tE tZ tf mP mf eP eT eF ef eg ew rx gx wx hv tp td rf rc ic), h2, r3) Q := by
  refine AMet.ofRch rfl rfl (Nat.le_of_ble_eq_true rfl) ?_
  refine r_aload_n dX0_no_0 rfl ?_
  refine r_get bX0 11 (by decide) q257 dX0_no_1 rfl rfl ?_
  refine r_iload_n dX0_no_4 rfl ?_
  refine r_ineg dX0_no_5 ?_
  rw [he]
  refine r_dup2 dX0_no_6 rfl rfl ?_
  refine r_ialdN dX0_no_7 rfl (by omega) (Nat.le_of_ble_eq_true rfl) ?_
  refine r_iconst 1 dX0_no_8 (by decide) ?_
  refine r_iadd dX0_no_9 ?_
  refine r_iastN dX0_no_10 rfl (by omega) (Nat.le_of_ble_eq_true rfl) ?_
  refine r_iload_n dX0_no_11 rfl ?_
  exact r_iret dX0_no_12 rfl (Nat.le_of_ble_eq_true rfl) (Nat.le_of_ble_eq_true rfl) (hQ)
theorem pX0_isPlace {h : AHp} {p : Int32} (hQ : Q (some (.int (b2i (inB p 0 11)))) h) : AMet mX0_isPlace 2 0 0 [.int p] h Q := by
  refine AMet.ofRch rfl rfl (Nat.le_of_ble_eq_true rfl) ?_
  refine r_iload_n dX0_isPlace_0 rfl ?_
  refine r_iconst 0 dX0_isPlace_1 (by decide) ?_
  refine r_bipush 11 dX0_isPlace_2 (by decide) ?_
  refine r_callS (as := [_, _, _]) okX0_isIn q378 dX0_isPlace_4 (Nat.le_of_ble_eq_true rfl) rfl (Nat.le_of_ble_eq_true rfl) (Nat.le_of_ble_eq_true rfl) (Nat.le_of_ble_eq_true rfl) (pX0_isIn ?_)
  exact r_zret (ty := .boolean) dX0_isPlace_7 rfl (b2i_nar _) (Nat.le_of_ble_eq_true rfl) (Nat.le_of_ble_eq_true rfl) (hQ)
theorem pX0_isSort {h : AHp} {p : Int32} (hQ : Q (some (.int (b2i (inB p 0 7)))) h) : AMet mX0_isSort 2 0 0 [.int p] h Q := by
  refine AMet.ofRch rfl rfl (Nat.le_of_ble_eq_true rfl) ?_
  refine r_iload_n dX0_isSort_0 rfl ?_
  refine r_iconst 0 dX0_isSort_1 (by decide) ?_
  refine r_bipush 7 dX0_isSort_2 (by decide) ?_
  refine r_callS (as := [_, _, _]) okX0_isIn q378 dX0_isSort_4 (Nat.le_of_ble_eq_true rfl) rfl (Nat.le_of_ble_eq_true rfl) (Nat.le_of_ble_eq_true rfl) (Nat.le_of_ble_eq_true rfl) (pX0_isIn ?_)
  exact r_zret (ty := .boolean) dX0_isSort_7 rfl (b2i_nar _) (Nat.le_of_ble_eq_true rfl) (Nat.le_of_ble_eq_true rfl) (hQ)
theorem pX0_isShelf {h : AHp} {p : Int32} (hQ : Q (some (.int (b2i (inB p 0 7)))) h) : AMet mX0_isShelf 2 0 0 [.int p] h Q := by
  refine AMet.ofRch rfl rfl (Nat.le_of_ble_eq_true rfl) ?_
  refine r_iload_n dX0_isShelf_0 rfl ?_
  refine r_iconst 0 dX0_isShelf_1 (by decide) ?_
  refine r_bipush 7 dX0_isShelf_2 (by decide) ?_
  refine r_callS (as := [_, _, _]) okX0_isIn q378 dX0_isShelf_4 (Nat.le_of_ble_eq_true rfl) rfl (Nat.le_of_ble_eq_true rfl) (Nat.le_of_ble_eq_true rfl) (Nat.le_of_ble_eq_true rfl) (pX0_isIn ?_)
  exact r_zret (ty := .boolean) dX0_isShelf_7 rfl (b2i_nar _) (Nat.le_of_ble_eq_true rfl) (Nat.le_of_ble_eq_true rfl) (hQ)
theorem pX0_isSet {p : Int32} (hn : n ≤ 8) (hQ : Q (some (.int (b2i (inB p 0 (allS n))))) (r0, (xC (.ref 2) iv tP tL tA tK tC tS tH tN tE tZ tf mP mf eP eT eF ef eg ew rx gx wx hv tp td rf rc ic), (wC th pf nl ag lk co sh hs (nI n) ev se lc), r3)) : AMet mX0_isSet 2 0 0 [.ref 1, .int p] (r0, (xC (.ref 2) iv tP tL tA tK tC tS tH tN tE tZ tf mP mf eP eT eF ef eg ew rx gx wx hv tp td rf rc ic), (wC th pf nl ag lk co sh hs (nI n) ev se lc), r3) Q := by
  refine AMet.ofRch rfl rfl (Nat.le_of_ble_eq_true rfl) ?_
  refine r_iload_n dX0_isSet_0 rfl ?_
  refine r_iconst 0 dX0_isSet_1 (by decide) ?_
  refine r_aload_n dX0_isSet_2 rfl ?_
  refine r_get bX0 0 (by decide) q246 dX0_isSet_3 rfl rfl ?_
  refine r_callV (as := []) okX1_everybody bX1 rfl rfl q1223 dX0_isSet_6 (Nat.le_of_ble_eq_true rfl) rfl (Nat.le_of_ble_eq_true rfl) (Nat.le_of_ble_eq_true rfl) (Nat.le_of_ble_eq_true rfl) (pX1_everybody rfl ?_)
  rw [shl1m hn]
  refine r_callS (as := [_, _, _]) okX0_isIn q378 dX0_isSet_9 (Nat.le_of_ble_eq_true rfl) rfl (Nat.le_of_ble_eq_true rfl) (Nat.le_of_ble_eq_true rfl) (Nat.le_of_ble_eq_true rfl) (pX0_isIn ?_)
  exact r_zret (ty := .boolean) dX0_isSet_12 rfl (b2i_nar _) (Nat.le_of_ble_eq_true rfl) (Nat.le_of_ble_eq_true rfl) (hQ)
theorem pX3_left {h : AHp} {o a s : Nat} {e1 e2 e3 e4 : Value} {f : Int32} {P : Nat → Int32} (ho : aGet h o = some (.inr (3, [.ref a, e1, e2, e3, e4]))) (ha : aGet h a = some (.inr (2, [.ref s, .int f]))) (hs : aGet h s = some (.inl (.int, 12, .inl P))) (hQ : Q (some (.int (bitsI (fun p => P p != -1) 12))) h) : AMet mX3_left 2 0 0 [.ref o] h Q := by
  refine AMet.ofRch rfl rfl (Nat.le_of_ble_eq_true rfl) ?_
  refine r_aload_n dX3_left_0 rfl ?_
  refine r_get bX3 0 (by decide) q215 dX3_left_1 ho rfl ?_
  refine r_callV (as := []) okX2_things bX2 rfl ha q1231 dX3_left_4 (Nat.le_of_ble_eq_true rfl) rfl (Nat.le_of_ble_eq_true rfl) (Nat.le_of_ble_eq_true rfl) (Nat.le_of_ble_eq_true rfl) (pX2_things ha hs ?_)
  exact r_iret dX3_left_7 rfl (Nat.le_of_ble_eq_true rfl) (Nat.le_of_ble_eq_true rfl) (hQ)
theorem pX3_many {h : AHp} {o : Nat} {e1 e2 e3 e4 : Value} {g : Int32} (ho : aGet h o = some (.inr (3, [e1, e2, e3, e4, .int g]))) (hQ : Q (some (.int (bcF g))) h) : AMet mX3_many 2 0 0 [.ref o] h Q := by
  refine AMet.ofRch rfl rfl (Nat.le_of_ble_eq_true rfl) ?_
  refine r_aload_n dX3_many_0 rfl ?_
  refine r_get bX3 4 (by decide) q222 dX3_many_1 ho rfl ?_
  refine r_callS (as := [_]) okJ18_bitCount q1247 dX3_many_4 (Nat.le_of_ble_eq_true rfl) rfl (Nat.le_of_ble_eq_true rfl) (Nat.le_of_ble_eq_true rfl) (Nat.le_of_ble_eq_true rfl) (pJ18_bitCount ?_)
  exact r_iret dX3_many_7 rfl (Nat.le_of_ble_eq_true rfl) (Nat.le_of_ble_eq_true rfl) (hQ)
theorem pX3_empty {h : AHp} {o t : Nat} {e1 e2 e3 e4 : Value} {s : Int32} {T : Nat → Int32} (ho : aGet h o = some (.inr (3, [e1, .ref t, e2, e3, e4]))) (ht : aGet h t = some (.inl (.int, 8, .inl T))) (hQ : Q (some (.int (bitsI (fun l => hasB s (nI l) && T l == 0) 8))) h) : AMet mX3_empty 2 0 0 [.ref o, .int s] h Q := by
  refine AMet.ofRch rfl rfl (Nat.le_of_ble_eq_true rfl) ?_
  refine r_iconst 0 dX3_empty_0 (by decide) ?_
  refine r_istore_n dX3_empty_1 (Nat.le_of_ble_eq_true rfl) ?_
  refine r_iconst 0 dX3_empty_2 (by decide) ?_
  refine r_istore_n dX3_empty_3 (Nat.le_of_ble_eq_true rfl) ?_
  refine loopUp (N := 8) (P := fun k => Rch (mX3_empty, 2, 0, 0, oQ Q) 0 0 4 [some (.ref o), some (.int s), some (.int (bitsI (fun l => hasB s (nI l) && T l == 0) k)), some (.int (nI k))] [] h) ?_ ?_
  · refine r_iload_n dX3_empty_4 rfl ?_
    refine r_bipush 8 dX3_empty_5 (by decide) ?_
    refine r_icmp_ge 43 dX3_empty_7 (by decide) (fun _ => ?_) (fun c_ => absurd (geT 8) c_)
    refine r_iload_n dX3_empty_43 rfl ?_
    exact r_iret dX3_empty_44 rfl (Nat.le_of_ble_eq_true rfl) (Nat.le_of_ble_eq_true rfl) (hQ)
  · intro k hk ih
    refine r_iload_n dX3_empty_4 rfl ?_
    refine r_bipush 8 dX3_empty_5 (by decide) ?_
    refine r_icmp_ge 43 dX3_empty_7 (by decide) (fun c_ => absurd c_ (geF hk (by decide))) (fun _ => ?_)
    refine r_iload_n dX3_empty_10 rfl ?_
    refine r_iload_n dX3_empty_11 rfl ?_
    refine r_iload_n dX3_empty_12 rfl ?_
    refine r_callSN (host := "SeenInOrderOfAge") (as := [_, _]) okX0_has (List.mem_of_getElem? (i := 8) rfl) dX3_empty_13 (Nat.le_of_ble_eq_true rfl) rfl (Nat.le_of_ble_eq_true rfl) (Nat.le_of_ble_eq_true rfl) (Nat.le_of_ble_eq_true rfl) (pX0_has ?_)
    refine r_if_eq 34 dX3_empty_16 (by decide) (fun c_16 => ?_) (fun c_16 => ?_)
    · refine r_iconst 0 dX3_empty_34 (by decide) ?_
      refine r_ior dX3_empty_35 ?_
      refine r_istore_n dX3_empty_36 (Nat.le_of_ble_eq_true rfl) ?_
      refine r_iincV dX3_empty_37 rfl (Nat.le_of_ble_eq_true rfl) (incN _) ?_
      refine r_goto 4 dX3_empty_40 (by decide) ?_
      first | (have q1 := b2i_0.mp c_16; simp only [bitsI, q1, Bool.false_and, Bool.false_eq_true, if_false] at ih; exact ih) | (have q1 := b2i_n.mp c_16; have q2 : (T k == 0) = true := (by simpa using c_25); simp only [bitsI, q1, q2, Bool.and_self, if_true] at ih; exact ih) | (have q1 := b2i_n.mp c_16; have q2 : (T k == 0) = false := (by simpa using c_25); simp only [bitsI, q1, q2, Bool.and_false, Bool.false_eq_true, if_false] at ih; exact ih)
    · refine r_aload_n dX3_empty_19 rfl ?_
      refine r_get bX3 1 (by decide) q217 dX3_empty_20 ho rfl ?_
      refine r_iload_n dX3_empty_23 rfl ?_
      refine r_ialdN dX3_empty_24 ht (by omega) (Nat.le_of_ble_eq_true rfl) ?_
      refine r_if_ne 34 dX3_empty_25 (by decide) (fun c_25 => ?_) (fun c_25 => ?_)
      · refine r_iconst 0 dX3_empty_34 (by decide) ?_
        refine r_ior dX3_empty_35 ?_
        refine r_istore_n dX3_empty_36 (Nat.le_of_ble_eq_true rfl) ?_
        refine r_iincV dX3_empty_37 rfl (Nat.le_of_ble_eq_true rfl) (incN _) ?_
        refine r_goto 4 dX3_empty_40 (by decide) ?_
        first | (have q1 := b2i_0.mp c_16; simp only [bitsI, q1, Bool.false_and, Bool.false_eq_true, if_false] at ih; exact ih) | (have q1 := b2i_n.mp c_16; have q2 : (T k == 0) = true := (by simpa using c_25); simp only [bitsI, q1, q2, Bool.and_self, if_true] at ih; exact ih) | (have q1 := b2i_n.mp c_16; have q2 : (T k == 0) = false := (by simpa using c_25); simp only [bitsI, q1, q2, Bool.and_false, Bool.false_eq_true, if_false] at ih; exact ih)
      · refine r_iconst 1 dX3_empty_28 (by decide) ?_
        refine r_iload_n dX3_empty_29 rfl ?_
        refine r_ishl dX3_empty_30 ?_
        refine r_goto 35 dX3_empty_31 (by decide) ?_
        refine r_ior dX3_empty_35 ?_
        refine r_istore_n dX3_empty_36 (Nat.le_of_ble_eq_true rfl) ?_
        refine r_iincV dX3_empty_37 rfl (Nat.le_of_ble_eq_true rfl) (incN _) ?_
        refine r_goto 4 dX3_empty_40 (by decide) ?_
        first | (have q1 := b2i_0.mp c_16; simp only [bitsI, q1, Bool.false_and, Bool.false_eq_true, if_false] at ih; exact ih) | (have q1 := b2i_n.mp c_16; have q2 : (T k == 0) = true := (by simpa using c_25); simp only [bitsI, q1, q2, Bool.and_self, if_true] at ih; exact ih) | (have q1 := b2i_n.mp c_16; have q2 : (T k == 0) = false := (by simpa using c_25); simp only [bitsI, q1, q2, Bool.and_false, Bool.false_eq_true, if_false] at ih; exact ih)
/-- nobody is in a set beyond those who are -/
theorem bits_8 {c : Nat → Bool} {n : Nat} {s : Int32} (hn : n ≤ 8) (h : inB s 0 (allS n) = true) : bitsI (fun l => hasB s (nI l) && c l) 8 = bitsI (fun l => hasB s (nI l) && c l) n := by
  obtain ⟨z, hz, rfl⟩ := inB_allS hn h
  have key : ∀ k, n + k ≤ 8 → bitsI (fun l => hasB (nI z) (nI l) && c l) (n + k) = bitsI (fun l => hasB (nI z) (nI l) && c l) n := by
    intro k
    induction k with
    | zero => intro _; rfl
    | succ k ih =>
      intro hk
      have e := hi_tab2 hn hz (show n ≤ n + k by omega) (by omega)
      rw [← Nat.add_assoc]
      simp only [bitsI, e, Bool.false_and, Bool.false_eq_true, if_false]
      rw [or0]
      exact ih (by omega)
  have := key (8 - n) (by omega)
  rw [show n + (8 - n) = 8 by omega] at this
  exact this
theorem pX0_left {s : Int32} (hn : n ≤ 8) (hL : LkI lc r3 nl kN ow n) (hP : ThI th) (hbad : inB s 0 (allS n) = false → Q (some (.int (-2))) (r0, (xC (.ref 2) iv tP tL tA tK tC tS tH tN tE tZ tf mP mf eP eT eF ef eg ew rx gx wx hv tp td (upd rf 2 (rf 2 + 1)) rc ic), (wC th pf nl ag lk co sh hs (nI n) ev se lc), r3)) (hok : inB s 0 (allS n) = true → ∀ (eP eT eF : Nat → Int32) (ef eg : Int32) (ew : Value), Q (some (.int (leF kN ow lk ag n th s))) (r0, (xC (.ref 2) iv tP tL tA tK tC tS tH tN tE tZ tf mP mf eP eT eF ef eg ew rx gx wx hv tp td rf rc ic), (wC th pf nl ag lk co sh hs (nI n) ev se lc), r3)) : AMet mX0_left 10 0 0 [.ref 1, .int s] (r0, (xC (.ref 2) iv tP tL tA tK tC tS tH tN tE tZ tf mP mf eP eT eF ef eg ew rx gx wx hv tp td rf rc ic), (wC th pf nl ag lk co sh hs (nI n) ev se lc), r3) Q := by
  refine AMet.ofRch rfl rfl (Nat.le_of_ble_eq_true rfl) ?_
  refine r_aload_n dX0_left_0 rfl ?_
  refine r_iload_n dX0_left_1 rfl ?_
  refine r_callV (as := [_]) okX0_isSet bX0 rfl rfl q1219 dX0_left_2 (Nat.le_of_ble_eq_true rfl) rfl (Nat.le_of_ble_eq_true rfl) (Nat.le_of_ble_eq_true rfl) (Nat.le_of_ble_eq_true rfl) (pX0_isSet hn ?_)
  refine r_if_eq 26 dX0_left_5 (by decide) (fun c_5 => ?_) (fun c_5 => ?_)
  · refine r_aload_n dX0_left_26 rfl ?_
    refine r_bipush (-2) dX0_left_27 (by decide) ?_
    refine r_callV (as := [_]) okX0_no bX0 rfl rfl q381 dX0_left_29 (Nat.le_of_ble_eq_true rfl) rfl (Nat.le_of_ble_eq_true rfl) (Nat.le_of_ble_eq_true rfl) (Nat.le_of_ble_eq_true rfl) (pX0_no 2 (by decide) (by decide) ?_)
    exact r_iret dX0_left_32 rfl (Nat.le_of_ble_eq_true rfl) (Nat.le_of_ble_eq_true rfl) (by first | exact hbad (b2i_0.mp c_5) | exact hok (b2i_n.mp c_5) _ _ _ _ _ _)
  · refine r_aload_n dX0_left_8 rfl ?_
    refine r_get bX0 4 (by decide) q250 dX0_left_9 rfl rfl ?_
    refine r_aload_n dX0_left_12 rfl ?_
    refine r_get bX0 0 (by decide) q246 dX0_left_13 rfl rfl ?_
    refine r_iload_n dX0_left_16 rfl ?_
    refine r_callV (as := [_, _]) okX3_of bX3 rfl rfl q547 dX0_left_17 (Nat.le_of_ble_eq_true rfl) rfl (Nat.le_of_ble_eq_true rfl) (Nat.le_of_ble_eq_true rfl) (Nat.le_of_ble_eq_true rfl) (pX3_of_n hn hL hP (fun ef2 => ?_))
    refine r_callV (as := []) okX3_left bX3 rfl rfl q1227 dX0_left_20 (Nat.le_of_ble_eq_true rfl) rfl (Nat.le_of_ble_eq_true rfl) (Nat.le_of_ble_eq_true rfl) (Nat.le_of_ble_eq_true rfl) (pX3_left rfl rfl rfl ?_)
    refine r_goto 32 dX0_left_23 (by decide) ?_
    exact r_iret dX0_left_32 rfl (Nat.le_of_ble_eq_true rfl) (Nat.le_of_ble_eq_true rfl) (by first | exact hbad (b2i_0.mp c_5) | exact hok (b2i_n.mp c_5) _ _ _ _ _ _)
theorem pX0_taken {s l : Int32} (hn : n ≤ 8) (hL : LkI lc r3 nl kN ow n) (hP : ThI th) (hbad : (inB s 0 (allS n) && inB l 0 (nI n - 1)) = false → Q (some (.int (-2))) (r0, (xC (.ref 2) iv tP tL tA tK tC tS tH tN tE tZ tf mP mf eP eT eF ef eg ew rx gx wx hv tp td (upd rf 2 (rf 2 + 1)) rc ic), (wC th pf nl ag lk co sh hs (nI n) ev se lc), r3)) (hok : inB s 0 (allS n) = true → ∀ j, j < n → l = nI j → ∀ (eP eT eF : Nat → Int32) (ef eg : Int32) (ew : Value), Q (some (.int ((evR kN ow lk ag n th s).2.1 j))) (r0, (xC (.ref 2) iv tP tL tA tK tC tS tH tN tE tZ tf mP mf eP eT eF ef eg ew rx gx wx hv tp td rf rc ic), (wC th pf nl ag lk co sh hs (nI n) ev se lc), r3)) : AMet mX0_taken 10 0 0 [.ref 1, .int s, .int l] (r0, (xC (.ref 2) iv tP tL tA tK tC tS tH tN tE tZ tf mP mf eP eT eF ef eg ew rx gx wx hv tp td rf rc ic), (wC th pf nl ag lk co sh hs (nI n) ev se lc), r3) Q := by
  refine AMet.ofRch rfl rfl (Nat.le_of_ble_eq_true rfl) ?_
  refine r_aload_n dX0_taken_0 rfl ?_
  refine r_iload_n dX0_taken_1 rfl ?_
  refine r_callV (as := [_]) okX0_isSet bX0 rfl rfl q1219 dX0_taken_2 (Nat.le_of_ble_eq_true rfl) rfl (Nat.le_of_ble_eq_true rfl) (Nat.le_of_ble_eq_true rfl) (Nat.le_of_ble_eq_true rfl) (pX0_isSet hn ?_)
  refine r_if_eq 39 dX0_taken_5 (by decide) (fun c_5 => ?_) (fun c_5 => ?_)
  · refine r_aload_n dX0_taken_39 rfl ?_
    refine r_bipush (-2) dX0_taken_40 (by decide) ?_
    refine r_callV (as := [_]) okX0_no bX0 rfl rfl q381 dX0_taken_42 (Nat.le_of_ble_eq_true rfl) rfl (Nat.le_of_ble_eq_true rfl) (Nat.le_of_ble_eq_true rfl) (Nat.le_of_ble_eq_true rfl) (pX0_no 2 (by decide) (by decide) ?_)
    exact r_iret dX0_taken_45 rfl (Nat.le_of_ble_eq_true rfl) (Nat.le_of_ble_eq_true rfl) (hbad (by simp_all [b2i_0]))
  · refine r_aload_n dX0_taken_8 rfl ?_
    refine r_get bX0 0 (by decide) q246 dX0_taken_9 rfl rfl ?_
    refine r_iload_n dX0_taken_12 rfl ?_
    refine r_callV (as := [_]) okX1_isLooker bX1 rfl rfl q519 dX0_taken_13 (Nat.le_of_ble_eq_true rfl) rfl (Nat.le_of_ble_eq_true rfl) (Nat.le_of_ble_eq_true rfl) (Nat.le_of_ble_eq_true rfl) (pX1_isLooker rfl ?_)
    refine r_if_eq 39 dX0_taken_16 (by decide) (fun c_16 => ?_) (fun c_16 => ?_)
    · refine r_aload_n dX0_taken_39 rfl ?_
      refine r_bipush (-2) dX0_taken_40 (by decide) ?_
      refine r_callV (as := [_]) okX0_no bX0 rfl rfl q381 dX0_taken_42 (Nat.le_of_ble_eq_true rfl) rfl (Nat.le_of_ble_eq_true rfl) (Nat.le_of_ble_eq_true rfl) (Nat.le_of_ble_eq_true rfl) (pX0_no 2 (by decide) (by decide) ?_)
      exact r_iret dX0_taken_45 rfl (Nat.le_of_ble_eq_true rfl) (Nat.le_of_ble_eq_true rfl) (hbad (by simp_all [b2i_0]))
    · obtain ⟨j, hj, rfl⟩ := inB_m (b2i_n.mp c_16) (by omega)
      refine r_aload_n dX0_taken_19 rfl ?_
      refine r_get bX0 4 (by decide) q250 dX0_taken_20 rfl rfl ?_
      refine r_aload_n dX0_taken_23 rfl ?_
      refine r_get bX0 0 (by decide) q246 dX0_taken_24 rfl rfl ?_
      refine r_iload_n dX0_taken_27 rfl ?_
      refine r_callV (as := [_, _]) okX3_of bX3 rfl rfl q547 dX0_taken_28 (Nat.le_of_ble_eq_true rfl) rfl (Nat.le_of_ble_eq_true rfl) (Nat.le_of_ble_eq_true rfl) (Nat.le_of_ble_eq_true rfl) (pX3_of_n hn hL hP (fun ef2 => ?_))
      refine r_get bX3 1 (by decide) q218 dX0_taken_31 rfl rfl ?_
      refine r_iload_n dX0_taken_34 rfl ?_
      refine r_ialdN dX0_taken_35 rfl (by omega) (Nat.le_of_ble_eq_true rfl) ?_
      refine r_goto 45 dX0_taken_36 (by decide) ?_
      exact r_iret dX0_taken_45 rfl (Nat.le_of_ble_eq_true rfl) (Nat.le_of_ble_eq_true rfl) (hok (b2i_n.mp c_5) j hj rfl _ _ _ _ _ _)
theorem pX0_glad {s w : Int32} (hn : n ≤ 8) (hL : LkI lc r3 nl kN ow n) (hP : ThI th) (hbad : (inB s 0 (allS n) && inB w 0 1) = false → Q (some (.int (-2))) (r0, (xC (.ref 2) iv tP tL tA tK tC tS tH tN tE tZ tf mP mf eP eT eF ef eg ew rx gx wx hv tp td (upd rf 2 (rf 2 + 1)) rc ic), (wC th pf nl ag lk co sh hs (nI n) ev se lc), r3)) (h0 : inB s 0 (allS n) = true → w = 0 → ∀ (eP eT eF : Nat → Int32) (ef eg : Int32) (ew : Value), Q (some (.int (gcF kN ow lk ag n th s))) (r0, (xC (.ref 2) iv tP tL tA tK tC tS tH tN tE tZ tf mP mf eP eT eF ef eg ew rx gx wx hv tp td rf rc ic), (wC th pf nl ag lk co sh hs (nI n) ev se lc), r3)) (h1 : inB s 0 (allS n) = true → w = 1 → ∀ (eP eT eF : Nat → Int32) (ef eg : Int32) (ew : Value), Q (some (.int (nI (cntI (fun l => hasB s (nI l) && (evR kN ow lk ag n th s).2.1 l == 0) n)))) (r0, (xC (.ref 2) iv tP tL tA tK tC tS tH tN tE tZ tf mP mf eP eT eF ef eg ew rx gx wx hv tp td rf rc ic), (wC th pf nl ag lk co sh hs (nI n) ev se lc), r3)) : AMet mX0_glad 10 0 0 [.ref 1, .int s, .int w] (r0, (xC (.ref 2) iv tP tL tA tK tC tS tH tN tE tZ tf mP mf eP eT eF ef eg ew rx gx wx hv tp td rf rc ic), (wC th pf nl ag lk co sh hs (nI n) ev se lc), r3) Q := by
  refine AMet.ofRch rfl rfl (Nat.le_of_ble_eq_true rfl) ?_
  refine r_aload_n dX0_glad_0 rfl ?_
  refine r_iload_n dX0_glad_1 rfl ?_
  refine r_callV (as := [_]) okX0_isSet bX0 rfl rfl q1219 dX0_glad_2 (Nat.le_of_ble_eq_true rfl) rfl (Nat.le_of_ble_eq_true rfl) (Nat.le_of_ble_eq_true rfl) (Nat.le_of_ble_eq_true rfl) (pX0_isSet hn ?_)
  refine r_if_eq 17 dX0_glad_5 (by decide) (fun c_5 => ?_) (fun c_5 => ?_)
  · refine r_aload_n dX0_glad_17 rfl ?_
    refine r_bipush (-2) dX0_glad_18 (by decide) ?_
    refine r_callV (as := [_]) okX0_no bX0 rfl rfl q381 dX0_glad_20 (Nat.le_of_ble_eq_true rfl) rfl (Nat.le_of_ble_eq_true rfl) (Nat.le_of_ble_eq_true rfl) (Nat.le_of_ble_eq_true rfl) (pX0_no 2 (by decide) (by decide) ?_)
    exact r_iret dX0_glad_23 rfl (Nat.le_of_ble_eq_true rfl) (Nat.le_of_ble_eq_true rfl) (hbad (by simp_all [b2i_0]))
  · refine r_iload_n dX0_glad_8 rfl ?_
    refine r_iconst 0 dX0_glad_9 (by decide) ?_
    refine r_iconst 1 dX0_glad_10 (by decide) ?_
    refine r_callS (as := [_, _, _]) okX0_isIn q378 dX0_glad_11 (Nat.le_of_ble_eq_true rfl) rfl (Nat.le_of_ble_eq_true rfl) (Nat.le_of_ble_eq_true rfl) (Nat.le_of_ble_eq_true rfl) (pX0_isIn ?_)
    refine r_if_ne 24 dX0_glad_14 (by decide) (fun c_14 => ?_) (fun c_14 => ?_)
    · have q1 := b2i_n.mp c_5
      have q2 := b2i_n.mp c_14
      obtain ⟨z, hz, rfl⟩ := inB_ex 1 (by decide) q2
      rcases (show z = 0 ∨ z = 1 by omega) with rfl | rfl
      · refine r_aload_n dX0_glad_24 rfl ?_
        refine r_get bX0 4 (by decide) q250 dX0_glad_25 rfl rfl ?_
        refine r_aload_n dX0_glad_28 rfl ?_
        refine r_get bX0 0 (by decide) q246 dX0_glad_29 rfl rfl ?_
        refine r_iload_n dX0_glad_32 rfl ?_
        refine r_callV (as := [_, _]) okX3_of bX3 rfl rfl q547 dX0_glad_33 (Nat.le_of_ble_eq_true rfl) rfl (Nat.le_of_ble_eq_true rfl) (Nat.le_of_ble_eq_true rfl) (Nat.le_of_ble_eq_true rfl) (pX3_of_n hn hL hP (fun ef2 => ?_))
        refine r_pop dX0_glad_36 rfl ?_
        refine r_iload_n dX0_glad_37 rfl ?_
        refine r_if_ne 51 dX0_glad_38 (by decide) (fun c_ => absurd (rfl) c_) (fun _ => ?_)
        refine r_aload_n dX0_glad_41 rfl ?_
        refine r_get bX0 4 (by decide) q250 dX0_glad_42 rfl rfl ?_
        refine r_callV (as := []) okX3_many bX3 rfl rfl q1243 dX0_glad_45 (Nat.le_of_ble_eq_true rfl) rfl (Nat.le_of_ble_eq_true rfl) (Nat.le_of_ble_eq_true rfl) (Nat.le_of_ble_eq_true rfl) (pX3_many rfl ?_)
        refine r_goto 62 dX0_glad_48 (by decide) ?_
        exact r_iret dX0_glad_62 rfl (Nat.le_of_ble_eq_true rfl) (Nat.le_of_ble_eq_true rfl) (qi (bc_bits hn) (h0 q1 rfl _ _ _ _ _ _))
      · refine r_aload_n dX0_glad_24 rfl ?_
        refine r_get bX0 4 (by decide) q250 dX0_glad_25 rfl rfl ?_
        refine r_aload_n dX0_glad_28 rfl ?_
        refine r_get bX0 0 (by decide) q246 dX0_glad_29 rfl rfl ?_
        refine r_iload_n dX0_glad_32 rfl ?_
        refine r_callV (as := [_, _]) okX3_of bX3 rfl rfl q547 dX0_glad_33 (Nat.le_of_ble_eq_true rfl) rfl (Nat.le_of_ble_eq_true rfl) (Nat.le_of_ble_eq_true rfl) (Nat.le_of_ble_eq_true rfl) (pX3_of_n hn hL hP (fun ef2 => ?_))
        refine r_pop dX0_glad_36 rfl ?_
        refine r_iload_n dX0_glad_37 rfl ?_
        refine r_if_ne 51 dX0_glad_38 (by decide) (fun _ => ?_) (fun c_ => absurd c_ (by decide))
        refine r_aload_n dX0_glad_51 rfl ?_
        refine r_get bX0 4 (by decide) q250 dX0_glad_52 rfl rfl ?_
        refine r_iload_n dX0_glad_55 rfl ?_
        refine r_callV (as := [_]) okX3_empty bX3 rfl rfl q1253 dX0_glad_56 (Nat.le_of_ble_eq_true rfl) rfl (Nat.le_of_ble_eq_true rfl) (Nat.le_of_ble_eq_true rfl) (Nat.le_of_ble_eq_true rfl) (pX3_empty rfl rfl ?_)
        refine r_callS (as := [_]) okJ18_bitCount q1257 dX0_glad_59 (Nat.le_of_ble_eq_true rfl) rfl (Nat.le_of_ble_eq_true rfl) (Nat.le_of_ble_eq_true rfl) (Nat.le_of_ble_eq_true rfl) (pJ18_bitCount ?_)
        exact r_iret dX0_glad_62 rfl (Nat.le_of_ble_eq_true rfl) (Nat.le_of_ble_eq_true rfl) (qi (by rw [bits_8 hn q1]; exact bc_bits hn) (h1 q1 rfl _ _ _ _ _ _))
    · refine r_aload_n dX0_glad_17 rfl ?_
      refine r_bipush (-2) dX0_glad_18 (by decide) ?_
      refine r_callV (as := [_]) okX0_no bX0 rfl rfl q381 dX0_glad_20 (Nat.le_of_ble_eq_true rfl) rfl (Nat.le_of_ble_eq_true rfl) (Nat.le_of_ble_eq_true rfl) (Nat.le_of_ble_eq_true rfl) (pX0_no 2 (by decide) (by decide) ?_)
      exact r_iret dX0_glad_23 rfl (Nat.le_of_ble_eq_true rfl) (Nat.le_of_ble_eq_true rfl) (hbad (by simp_all [b2i_0]))
theorem pX0_places {h2 : List AC} (hQ : Q (some (.int (bitsI (fun p => th p != -1) 12))) (r0, (xC (.ref 2) iv tP tL tA tK tC tS tH tN tE tZ tf mP mf eP eT eF ef eg ew rx gx wx hv tp td rf rc ic), (wC th pf nl ag lk co sh hs my ev se lc), r3)) : AMet mX0_places 2 0 0 [.ref 1] (r0, (xC (.ref 2) iv tP tL tA tK tC tS tH tN tE tZ tf mP mf eP eT eF ef eg ew rx gx wx hv tp td rf rc ic), (wC th pf nl ag lk co sh hs my ev se lc), r3) Q := by
  refine AMet.ofRch rfl rfl (Nat.le_of_ble_eq_true rfl) ?_
  refine r_aload_n dX0_places_0 rfl ?_
  refine r_get bX0 0 (by decide) q246 dX0_places_1 rfl rfl ?_
  refine r_get bX1 0 (by decide) q160 dX0_places_4 rfl rfl ?_
  refine r_callV (as := []) okX2_things bX2 rfl rfl q1262 dX0_places_7 (Nat.le_of_ble_eq_true rfl) rfl (Nat.le_of_ble_eq_true rfl) (Nat.le_of_ble_eq_true rfl) (Nat.le_of_ble_eq_true rfl) (pX2_things rfl rfl ?_)
  exact r_iret dX0_places_10 rfl (Nat.le_of_ble_eq_true rfl) (Nat.le_of_ble_eq_true rfl) (hQ)
theorem pX0_gladOnes {s : Int32} (hn : n ≤ 8) (hL : LkI lc r3 nl kN ow n) (hP : ThI th) (hbad : inB s 0 (allS n) = false → Q (some (.int (-2))) (r0, (xC (.ref 2) iv tP tL tA tK tC tS tH tN tE tZ tf mP mf eP eT eF ef eg ew rx gx wx hv tp td (upd rf 2 (rf 2 + 1)) rc ic), (wC th pf nl ag lk co sh hs (nI n) ev se lc), r3)) (hok : inB s 0 (allS n) = true → ∀ (eP eT eF : Nat → Int32) (ef eg : Int32) (ew : Value), Q (some (.int (bitsI (fun l => hasB s (nI l) && glF kN ow lk ag n th l s) n))) (r0, (xC (.ref 2) iv tP tL tA tK tC tS tH tN tE tZ tf mP mf eP eT eF ef eg ew rx gx wx hv tp td rf rc ic), (wC th pf nl ag lk co sh hs (nI n) ev se lc), r3)) : AMet mX0_gladOnes 10 0 0 [.ref 1, .int s] (r0, (xC (.ref 2) iv tP tL tA tK tC tS tH tN tE tZ tf mP mf eP eT eF ef eg ew rx gx wx hv tp td rf rc ic), (wC th pf nl ag lk co sh hs (nI n) ev se lc), r3) Q := by
  refine AMet.ofRch rfl rfl (Nat.le_of_ble_eq_true rfl) ?_
  refine r_aload_n dX0_gladOnes_0 rfl ?_
  refine r_iload_n dX0_gladOnes_1 rfl ?_
  refine r_callV (as := [_]) okX0_isSet bX0 rfl rfl q1219 dX0_gladOnes_2 (Nat.le_of_ble_eq_true rfl) rfl (Nat.le_of_ble_eq_true rfl) (Nat.le_of_ble_eq_true rfl) (Nat.le_of_ble_eq_true rfl) (pX0_isSet hn ?_)
  refine r_if_eq 26 dX0_gladOnes_5 (by decide) (fun c_5 => ?_) (fun c_5 => ?_)
  · refine r_aload_n dX0_gladOnes_26 rfl ?_
    refine r_bipush (-2) dX0_gladOnes_27 (by decide) ?_
    refine r_callV (as := [_]) okX0_no bX0 rfl rfl q381 dX0_gladOnes_29 (Nat.le_of_ble_eq_true rfl) rfl (Nat.le_of_ble_eq_true rfl) (Nat.le_of_ble_eq_true rfl) (Nat.le_of_ble_eq_true rfl) (pX0_no 2 (by decide) (by decide) ?_)
    exact r_iret dX0_gladOnes_32 rfl (Nat.le_of_ble_eq_true rfl) (Nat.le_of_ble_eq_true rfl) (by first | exact hbad (b2i_0.mp c_5) | exact hok (b2i_n.mp c_5) _ _ _ _ _ _)
  · refine r_aload_n dX0_gladOnes_8 rfl ?_
    refine r_get bX0 4 (by decide) q250 dX0_gladOnes_9 rfl rfl ?_
    refine r_aload_n dX0_gladOnes_12 rfl ?_
    refine r_get bX0 0 (by decide) q246 dX0_gladOnes_13 rfl rfl ?_
    refine r_iload_n dX0_gladOnes_16 rfl ?_
    refine r_callV (as := [_, _]) okX3_of bX3 rfl rfl q547 dX0_gladOnes_17 (Nat.le_of_ble_eq_true rfl) rfl (Nat.le_of_ble_eq_true rfl) (Nat.le_of_ble_eq_true rfl) (Nat.le_of_ble_eq_true rfl) (pX3_of_n hn hL hP (fun ef2 => ?_))
    refine r_get bX3 4 (by decide) q223 dX0_gladOnes_20 rfl rfl ?_
    refine r_goto 32 dX0_gladOnes_23 (by decide) ?_
    exact r_iret dX0_gladOnes_32 rfl (Nat.le_of_ble_eq_true rfl) (Nat.le_of_ble_eq_true rfl) (by first | exact hbad (b2i_0.mp c_5) | exact hok (b2i_n.mp c_5) _ _ _ _ _ _)
theorem pX0_empty {s : Int32} (hn : n ≤ 8) (hL : LkI lc r3 nl kN ow n) (hP : ThI th) (hbad : inB s 0 (allS n) = false → Q (some (.int (-2))) (r0, (xC (.ref 2) iv tP tL tA tK tC tS tH tN tE tZ tf mP mf eP eT eF ef eg ew rx gx wx hv tp td (upd rf 2 (rf 2 + 1)) rc ic), (wC th pf nl ag lk co sh hs (nI n) ev se lc), r3)) (hok : inB s 0 (allS n) = true → ∀ (eP eT eF : Nat → Int32) (ef eg : Int32) (ew : Value), Q (some (.int (bitsI (fun l => hasB s (nI l) && (evR kN ow lk ag n th s).2.1 l == 0) n))) (r0, (xC (.ref 2) iv tP tL tA tK tC tS tH tN tE tZ tf mP mf eP eT eF ef eg ew rx gx wx hv tp td rf rc ic), (wC th pf nl ag lk co sh hs (nI n) ev se lc), r3)) : AMet mX0_empty 10 0 0 [.ref 1, .int s] (r0, (xC (.ref 2) iv tP tL tA tK tC tS tH tN tE tZ tf mP mf eP eT eF ef eg ew rx gx wx hv tp td rf rc ic), (wC th pf nl ag lk co sh hs (nI n) ev se lc), r3) Q := by
  refine AMet.ofRch rfl rfl (Nat.le_of_ble_eq_true rfl) ?_
  refine r_aload_n dX0_empty_0 rfl ?_
  refine r_iload_n dX0_empty_1 rfl ?_
  refine r_callV (as := [_]) okX0_isSet bX0 rfl rfl q1219 dX0_empty_2 (Nat.le_of_ble_eq_true rfl) rfl (Nat.le_of_ble_eq_true rfl) (Nat.le_of_ble_eq_true rfl) (Nat.le_of_ble_eq_true rfl) (pX0_isSet hn ?_)
  refine r_if_eq 27 dX0_empty_5 (by decide) (fun c_5 => ?_) (fun c_5 => ?_)
  · refine r_aload_n dX0_empty_27 rfl ?_
    refine r_bipush (-2) dX0_empty_28 (by decide) ?_
    refine r_callV (as := [_]) okX0_no bX0 rfl rfl q381 dX0_empty_30 (Nat.le_of_ble_eq_true rfl) rfl (Nat.le_of_ble_eq_true rfl) (Nat.le_of_ble_eq_true rfl) (Nat.le_of_ble_eq_true rfl) (pX0_no 2 (by decide) (by decide) ?_)
    exact r_iret dX0_empty_33 rfl (Nat.le_of_ble_eq_true rfl) (Nat.le_of_ble_eq_true rfl) (by first | exact hbad (b2i_0.mp c_5) | exact qi (bits_8 hn (b2i_n.mp c_5)) (hok (b2i_n.mp c_5) _ _ _ _ _ _))
  · refine r_aload_n dX0_empty_8 rfl ?_
    refine r_get bX0 4 (by decide) q250 dX0_empty_9 rfl rfl ?_
    refine r_aload_n dX0_empty_12 rfl ?_
    refine r_get bX0 0 (by decide) q246 dX0_empty_13 rfl rfl ?_
    refine r_iload_n dX0_empty_16 rfl ?_
    refine r_callV (as := [_, _]) okX3_of bX3 rfl rfl q547 dX0_empty_17 (Nat.le_of_ble_eq_true rfl) rfl (Nat.le_of_ble_eq_true rfl) (Nat.le_of_ble_eq_true rfl) (Nat.le_of_ble_eq_true rfl) (pX3_of_n hn hL hP (fun ef2 => ?_))
    refine r_iload_n dX0_empty_20 rfl ?_
    refine r_callV (as := [_]) okX3_empty bX3 rfl rfl q1253 dX0_empty_21 (Nat.le_of_ble_eq_true rfl) rfl (Nat.le_of_ble_eq_true rfl) (Nat.le_of_ble_eq_true rfl) (Nat.le_of_ble_eq_true rfl) (pX3_empty rfl rfl ?_)
    refine r_goto 33 dX0_empty_24 (by decide) ?_
    exact r_iret dX0_empty_33 rfl (Nat.le_of_ble_eq_true rfl) (Nat.le_of_ble_eq_true rfl) (by first | exact hbad (b2i_0.mp c_5) | exact qi (bits_8 hn (b2i_n.mp c_5)) (hok (b2i_n.mp c_5) _ _ _ _ _ _))
theorem pX0_inOrder {s : Int32} {q : Nat} (hn : n ≤ 8) (hq : q < 1000) (hQ : Q (some (.int (hdO ((ordL ag s n).drop q)))) (r0, (xC (.ref 2) iv tP tL tA tK tC tS tH tN tE tZ tf mP mf eP eT eF ef eg ew rx gx wx hv tp td rf rc ic), (wC th pf nl ag lk co sh hs (nI n) ev se lc), r3)) : AMet mX0_inOrder 3 0 0 [.ref 1, .int s, .int (nI q)] (r0, (xC (.ref 2) iv tP tL tA tK tC tS tH tN tE tZ tf mP mf eP eT eF ef eg ew rx gx wx hv tp td rf rc ic), (wC th pf nl ag lk co sh hs (nI n) ev se lc), r3) Q := by
  refine AMet.ofRch rfl rfl (Nat.le_of_ble_eq_true rfl) ?_
  refine r_iload_n dX0_inOrder_0 rfl ?_
  refine r_istore_n dX0_inOrder_1 (Nat.le_of_ble_eq_true rfl) ?_
  refine r_iconst 0 dX0_inOrder_2 (by decide) ?_
  refine r_istore dX0_inOrder_3 (Nat.le_of_ble_eq_true rfl) ?_
  refine loopUp (N := q) (P := fun k => ∀ lf, ordL ag lf n = (ordL ag s n).drop k → Rch (mX0_inOrder, 3, 0, 0, oQ Q) 0 0 5 [some (.ref 1), some (.int s), some (.int (nI q)), some (.int lf), some (.int (nI k))] [] (r0, (xC (.ref 2) iv tP tL tA tK tC tS tH tN tE tZ tf mP mf eP eT eF ef eg ew rx gx wx hv tp td rf rc ic), (wC th pf nl ag lk co sh hs (nI n) ev se lc), r3)) ?_ ?_ s (by simp)
  · intro lf e
    refine r_iload dX0_inOrder_5 rfl ?_
    refine r_iload_n dX0_inOrder_7 rfl ?_
    refine r_icmp_ge 32 dX0_inOrder_8 (by decide) (fun _ => ?_) (fun c_ => absurd (geT q) c_)
    refine r_aload_n dX0_inOrder_32 rfl ?_
    refine r_get bX0 0 (by decide) q246 dX0_inOrder_33 rfl rfl ?_
    refine r_iload_n dX0_inOrder_36 rfl ?_
    refine r_callV (as := [_]) okX1_next bX1 rfl rfl q1279 dX0_inOrder_37 (Nat.le_of_ble_eq_true rfl) rfl (Nat.le_of_ble_eq_true rfl) (Nat.le_of_ble_eq_true rfl) (Nat.le_of_ble_eq_true rfl) (pX1_next hn rfl rfl ?_)
    exact r_iret dX0_inOrder_40 rfl (Nat.le_of_ble_eq_true rfl) (Nat.le_of_ble_eq_true rfl) (qi (by rw [e]) hQ)
  · intro k hk ih lf e
    refine r_iload dX0_inOrder_5 rfl ?_
    refine r_iload_n dX0_inOrder_7 rfl ?_
    refine r_icmp_ge 32 dX0_inOrder_8 (by decide) (fun c_ => absurd c_ (geF hk (by omega))) (fun _ => ?_)
    refine r_iload_n dX0_inOrder_11 rfl ?_
    refine r_iconst 1 dX0_inOrder_12 (by decide) ?_
    refine r_aload_n dX0_inOrder_13 rfl ?_
    refine r_get bX0 0 (by decide) q246 dX0_inOrder_14 rfl rfl ?_
    refine r_iload_n dX0_inOrder_17 rfl ?_
    refine r_callV (as := [_]) okX1_next bX1 rfl rfl q1279 dX0_inOrder_18 (Nat.le_of_ble_eq_true rfl) rfl (Nat.le_of_ble_eq_true rfl) (Nat.le_of_ble_eq_true rfl) (Nat.le_of_ble_eq_true rfl) (pX1_next hn rfl rfl ?_)
    rw [e]
    refine r_ishl dX0_inOrder_21 ?_
    refine r_iconst (-1) dX0_inOrder_22 (by decide) ?_
    refine r_ixor dX0_inOrder_23 ?_
    refine r_iand dX0_inOrder_24 ?_
    refine r_istore_n dX0_inOrder_25 (Nat.le_of_ble_eq_true rfl) ?_
    refine r_iincV dX0_inOrder_26 rfl (Nat.le_of_ble_eq_true rfl) (incN _) ?_
    refine r_goto 5 dX0_inOrder_29 (by decide) ?_
    exact ih _ (by rw [ord_step (by omega) e, List.tail_drop])
theorem pX0_order {s i : Int32} (hn : n ≤ 8) (hbad : (inB s 0 (allS n) && inB i 0 (bcF s - 1)) = false → Q (some (.int (-2))) (r0, (xC (.ref 2) iv tP tL tA tK tC tS tH tN tE tZ tf mP mf eP eT eF ef eg ew rx gx wx hv tp td (upd rf 2 (rf 2 + 1)) rc ic), (wC th pf nl ag lk co sh hs (nI n) ev se lc), r3)) (hok : inB s 0 (allS n) = true → ∀ q, q < (ordL ag s n).length → i = nI q → Q (some (.int (nI ((ordL ag s n).getD q 0)))) (r0, (xC (.ref 2) iv tP tL tA tK tC tS tH tN tE tZ tf mP mf eP eT eF ef eg ew rx gx wx hv tp td rf rc ic), (wC th pf nl ag lk co sh hs (nI n) ev se lc), r3)) : AMet mX0_order 4 0 0 [.ref 1, .int s, .int i] (r0, (xC (.ref 2) iv tP tL tA tK tC tS tH tN tE tZ tf mP mf eP eT eF ef eg ew rx gx wx hv tp td rf rc ic), (wC th pf nl ag lk co sh hs (nI n) ev se lc), r3) Q := by
  refine AMet.ofRch rfl rfl (Nat.le_of_ble_eq_true rfl) ?_
  have hlen := ordL_len ag s n
  refine r_aload_n dX0_order_0 rfl ?_
  refine r_iload_n dX0_order_1 rfl ?_
  refine r_callV (as := [_]) okX0_isSet bX0 rfl rfl q1219 dX0_order_2 (Nat.le_of_ble_eq_true rfl) rfl (Nat.le_of_ble_eq_true rfl) (Nat.le_of_ble_eq_true rfl) (Nat.le_of_ble_eq_true rfl) (pX0_isSet hn ?_)
  refine r_if_eq 31 dX0_order_5 (by decide) (fun c_5 => ?_) (fun c_5 => ?_)
  · refine r_aload_n dX0_order_31 rfl ?_
    refine r_bipush (-2) dX0_order_32 (by decide) ?_
    refine r_callV (as := [_]) okX0_no bX0 rfl rfl q381 dX0_order_34 (Nat.le_of_ble_eq_true rfl) rfl (Nat.le_of_ble_eq_true rfl) (Nat.le_of_ble_eq_true rfl) (Nat.le_of_ble_eq_true rfl) (pX0_no 2 (by decide) (by decide) ?_)
    exact r_iret dX0_order_37 rfl (Nat.le_of_ble_eq_true rfl) (Nat.le_of_ble_eq_true rfl) (hbad (by simp_all [b2i_0]))
  · refine r_iload_n dX0_order_8 rfl ?_
    refine r_iconst 0 dX0_order_9 (by decide) ?_
    refine r_iload_n dX0_order_10 rfl ?_
    refine r_callS (as := [_]) okJ18_bitCount q1257 dX0_order_11 (Nat.le_of_ble_eq_true rfl) rfl (Nat.le_of_ble_eq_true rfl) (Nat.le_of_ble_eq_true rfl) (Nat.le_of_ble_eq_true rfl) (pJ18_bitCount ?_)
    refine r_iconst 1 dX0_order_14 (by decide) ?_
    refine r_isub dX0_order_15 ?_
    refine r_callS (as := [_, _, _]) okX0_isIn q378 dX0_order_16 (Nat.le_of_ble_eq_true rfl) rfl (Nat.le_of_ble_eq_true rfl) (Nat.le_of_ble_eq_true rfl) (Nat.le_of_ble_eq_true rfl) (pX0_isIn ?_)
    refine r_if_eq 31 dX0_order_19 (by decide) (fun c_19 => ?_) (fun c_19 => ?_)
    · refine r_aload_n dX0_order_31 rfl ?_
      refine r_bipush (-2) dX0_order_32 (by decide) ?_
      refine r_callV (as := [_]) okX0_no bX0 rfl rfl q381 dX0_order_34 (Nat.le_of_ble_eq_true rfl) rfl (Nat.le_of_ble_eq_true rfl) (Nat.le_of_ble_eq_true rfl) (Nat.le_of_ble_eq_true rfl) (pX0_no 2 (by decide) (by decide) ?_)
      exact r_iret dX0_order_37 rfl (Nat.le_of_ble_eq_true rfl) (Nat.le_of_ble_eq_true rfl) (hbad (by simp_all [b2i_0]))
    · obtain ⟨z, hz2, e⟩ := inB_allS hn (b2i_n.mp c_5)
      have g := b2i_n.mp c_19
      rw [e, bc_cnt hn hz2, ← e, ← ordL_cnt ag] at g
      obtain ⟨q, hq, rfl⟩ := inB_m g (by omega)
      refine r_aload_n dX0_order_22 rfl ?_
      refine r_iload_n dX0_order_23 rfl ?_
      refine r_iload_n dX0_order_24 rfl ?_
      refine r_callV (as := [_, _]) okX0_inOrder bX0 rfl rfl q1275 dX0_order_25 (Nat.le_of_ble_eq_true rfl) rfl (Nat.le_of_ble_eq_true rfl) (Nat.le_of_ble_eq_true rfl) (Nat.le_of_ble_eq_true rfl) (pX0_inOrder (q := q) hn (by omega) ?_)
      refine r_goto 37 dX0_order_28 (by decide) ?_
      exact r_iret dX0_order_37 rfl (Nat.le_of_ble_eq_true rfl) (Nat.le_of_ble_eq_true rfl) (qi (hd_drop hq) (hok (b2i_n.mp c_5) q hq rfl))
theorem pX0_isGlad {s : Int32} {j : Nat} (hn : n ≤ 8) (hL : LkI lc r3 nl kN ow n) (hP : ThI th) (hj : j < n) (hQ : ∀ (eP eT eF : Nat → Int32) (ef eg : Int32) (ew : Value), Q (some (.int (b2i (hasB s (nI j) && glF kN ow lk ag n th j s)))) (r0, (xC (.ref 2) iv tP tL tA tK tC tS tH tN tE tZ tf mP mf eP eT eF ef eg ew rx gx wx hv tp td rf rc ic), (wC th pf nl ag lk co sh hs (nI n) ev se lc), r3)) : AMet mX0_isGlad 10 0 0 [.ref 1, .int s, .int (nI j)] (r0, (xC (.ref 2) iv tP tL tA tK tC tS tH tN tE tZ tf mP mf eP eT eF ef eg ew rx gx wx hv tp td rf rc ic), (wC th pf nl ag lk co sh hs (nI n) ev se lc), r3) Q := by
  refine AMet.ofRch rfl rfl (Nat.le_of_ble_eq_true rfl) ?_
  refine r_aload_n dX0_isGlad_0 rfl ?_
  refine r_get bX0 4 (by decide) q250 dX0_isGlad_1 rfl rfl ?_
  refine r_aload_n dX0_isGlad_4 rfl ?_
  refine r_get bX0 0 (by decide) q246 dX0_isGlad_5 rfl rfl ?_
  refine r_iload_n dX0_isGlad_8 rfl ?_
  refine r_callV (as := [_, _]) okX3_of bX3 rfl rfl q547 dX0_isGlad_9 (Nat.le_of_ble_eq_true rfl) rfl (Nat.le_of_ble_eq_true rfl) (Nat.le_of_ble_eq_true rfl) (Nat.le_of_ble_eq_true rfl) (pX3_of_n hn hL hP (fun ef2 => ?_))
  refine r_get bX3 4 (by decide) q223 dX0_isGlad_12 rfl rfl ?_
  refine r_iload_n dX0_isGlad_15 rfl ?_
  refine r_callS (as := [_, _]) okX0_has q974 dX0_isGlad_16 (Nat.le_of_ble_eq_true rfl) rfl (Nat.le_of_ble_eq_true rfl) (Nat.le_of_ble_eq_true rfl) (Nat.le_of_ble_eq_true rfl) (pX0_has ?_)
  exact r_zret (ty := .boolean) dX0_isGlad_19 rfl (b2i_nar _) (Nat.le_of_ble_eq_true rfl) (Nat.le_of_ble_eq_true rfl) (qi (congrArg b2i (bits_has n (by omega) hj)) (hQ _ _ _ _ _ _))
theorem pX0_without {l : Int32} (hn : n ≤ 8) (hL : LkI lc r3 nl kN ow n) (hP : ThI th) (hbad : inB l 0 (nI n - 1) = false → Q (some (.int (-2))) (r0, (xC (.ref 2) iv tP tL tA tK tC tS tH tN tE tZ tf mP mf eP eT eF ef eg ew rx gx wx hv tp td (upd rf 2 (rf 2 + 1)) rc ic), (wC th pf nl ag lk co sh hs (nI n) ev se lc), r3)) (hok : ∀ j, j < n → l = nI j → ∀ (eP eT eF : Nat → Int32) (ef eg : Int32) (ew : Value), Q (some (.int (gcF kN ow lk ag n th (allS n &&& ((1 <<< (nI j &&& 31)) ^^^ (-1)))))) (r0, (xC (.ref 2) iv tP tL tA tK tC tS tH tN tE tZ tf mP mf eP eT eF ef eg ew rx gx wx hv tp td rf rc ic), (wC th pf nl ag lk co sh hs (nI n) ev se lc), r3)) : AMet mX0_without 10 0 0 [.ref 1, .int l] (r0, (xC (.ref 2) iv tP tL tA tK tC tS tH tN tE tZ tf mP mf eP eT eF ef eg ew rx gx wx hv tp td rf rc ic), (wC th pf nl ag lk co sh hs (nI n) ev se lc), r3) Q := by
  refine AMet.ofRch rfl rfl (Nat.le_of_ble_eq_true rfl) ?_
  refine r_aload_n dX0_without_0 rfl ?_
  refine r_get bX0 0 (by decide) q246 dX0_without_1 rfl rfl ?_
  refine r_iload_n dX0_without_4 rfl ?_
  refine r_callV (as := [_]) okX1_isLooker bX1 rfl rfl q519 dX0_without_5 (Nat.le_of_ble_eq_true rfl) rfl (Nat.le_of_ble_eq_true rfl) (Nat.le_of_ble_eq_true rfl) (Nat.le_of_ble_eq_true rfl) (pX1_isLooker rfl ?_)
  refine r_if_eq 41 dX0_without_8 (by decide) (fun c_8 => ?_) (fun c_8 => ?_)
  · refine r_aload_n dX0_without_41 rfl ?_
    refine r_bipush (-2) dX0_without_42 (by decide) ?_
    refine r_callV (as := [_]) okX0_no bX0 rfl rfl q381 dX0_without_44 (Nat.le_of_ble_eq_true rfl) rfl (Nat.le_of_ble_eq_true rfl) (Nat.le_of_ble_eq_true rfl) (Nat.le_of_ble_eq_true rfl) (pX0_no 2 (by decide) (by decide) ?_)
    exact r_iret dX0_without_47 rfl (Nat.le_of_ble_eq_true rfl) (Nat.le_of_ble_eq_true rfl) (hbad (b2i_0.mp c_8))
  · obtain ⟨j, hj, rfl⟩ := inB_m (b2i_n.mp c_8) (by omega)
    refine r_aload_n dX0_without_11 rfl ?_
    refine r_get bX0 4 (by decide) q250 dX0_without_12 rfl rfl ?_
    refine r_aload_n dX0_without_15 rfl ?_
    refine r_get bX0 0 (by decide) q246 dX0_without_16 rfl rfl ?_
    refine r_aload_n dX0_without_19 rfl ?_
    refine r_get bX0 0 (by decide) q246 dX0_without_20 rfl rfl ?_
    refine r_callV (as := []) okX1_everybody bX1 rfl rfl q1223 dX0_without_23 (Nat.le_of_ble_eq_true rfl) rfl (Nat.le_of_ble_eq_true rfl) (Nat.le_of_ble_eq_true rfl) (Nat.le_of_ble_eq_true rfl) (pX1_everybody rfl ?_)
    rw [shl1m hn]
    refine r_iconst 1 dX0_without_26 (by decide) ?_
    refine r_iload_n dX0_without_27 rfl ?_
    refine r_ishl dX0_without_28 ?_
    refine r_iconst (-1) dX0_without_29 (by decide) ?_
    refine r_ixor dX0_without_30 ?_
    refine r_iand dX0_without_31 ?_
    refine r_callV (as := [_, _]) okX3_of bX3 rfl rfl q547 dX0_without_32 (Nat.le_of_ble_eq_true rfl) rfl (Nat.le_of_ble_eq_true rfl) (Nat.le_of_ble_eq_true rfl) (Nat.le_of_ble_eq_true rfl) (pX3_of_n hn hL hP (fun ef2 => ?_))
    refine r_callV (as := []) okX3_many bX3 rfl rfl q1243 dX0_without_35 (Nat.le_of_ble_eq_true rfl) rfl (Nat.le_of_ble_eq_true rfl) (Nat.le_of_ble_eq_true rfl) (Nat.le_of_ble_eq_true rfl) (pX3_many rfl ?_)
    refine r_goto 47 dX0_without_38 (by decide) ?_
    exact r_iret dX0_without_47 rfl (Nat.le_of_ble_eq_true rfl) (Nat.le_of_ble_eq_true rfl) (qi (bc_bits hn) (hok j hj rfl _ _ _ _ _ _))
theorem pX0_away {l w : Int32} (hn : n ≤ 8) (hL : LkI lc r3 nl kN ow n) (hP : ThI th) (hbad : (inB l 0 (nI n - 1) && inB w 0 1) = false → Q (some (.int (-2))) (r0, (xC (.ref 2) iv tP tL tA tK tC tS tH tN tE tZ tf mP mf eP eT eF ef eg ew rx gx wx hv tp td (upd rf 2 (rf 2 + 1)) rc ic), (wC th pf nl ag lk co sh hs (nI n) ev se lc), r3)) (hok : ∀ j, j < n → l = nI j → inB w 0 1 = true → ∀ (eP eT eF : Nat → Int32) (ef eg : Int32) (ew : Value), Q (some (.int (if awF kN ow lk ag n th j (2 ^ n) = -1 ∨ w = 1 then awF kN ow lk ag n th j (2 ^ n) else bcF (awF kN ow lk ag n th j (2 ^ n))))) (r0, (xC (.ref 2) iv tP tL tA tK tC tS tH tN tE tZ tf mP mf eP eT eF ef eg ew rx gx wx hv tp td rf rc ic), (wC th pf nl ag lk co sh hs (nI n) ev se lc), r3)) : AMet mX0_away 11 0 0 [.ref 1, .int l, .int w] (r0, (xC (.ref 2) iv tP tL tA tK tC tS tH tN tE tZ tf mP mf eP eT eF ef eg ew rx gx wx hv tp td rf rc ic), (wC th pf nl ag lk co sh hs (nI n) ev se lc), r3) Q := by
  refine AMet.ofRch rfl rfl (Nat.le_of_ble_eq_true rfl) ?_
  have h2 := p2_le hn
  have h3 := p2_pos n
  have hgo : ∀ j, j < n → l = nI j → inB w 0 1 = true → Rch (mX0_away, 11, 0, 0, oQ Q) 0 0 27 [some (.ref 1), some (.int l), some (.int w), none, none, none] [] (r0, (xC (.ref 2) iv tP tL tA tK tC tS tH tN tE tZ tf mP mf eP eT eF ef eg ew rx gx wx hv tp td rf rc ic), (wC th pf nl ag lk co sh hs (nI n) ev se lc), r3) := by
    intro j hj e hw
    subst e
    refine r_iconst (-1) dX0_away_27 (by decide) ?_
    refine r_istore_n dX0_away_28 (Nat.le_of_ble_eq_true rfl) ?_
    refine r_iconst 0 dX0_away_29 (by decide) ?_
    refine r_istore dX0_away_30 (Nat.le_of_ble_eq_true rfl) ?_
    refine loopUp (N := 2 ^ n) (P := fun k => ∀ (y : Option Value), ∀ (eP eT eF : Nat → Int32) (ef eg : Int32) (ew : Value), Rch (mX0_away, 11, 0, 0, oQ Q) 0 0 32 [some (.ref 1), some (.int (nI j)), some (.int w), some (.int (awF kN ow lk ag n th j k)), some (.int (nI k)), y] [] (r0, (xC (.ref 2) iv tP tL tA tK tC tS tH tN tE tZ tf mP mf eP eT eF ef eg ew rx gx wx hv tp td rf rc ic), (wC th pf nl ag lk co sh hs (nI n) ev se lc), r3)) ?_ ?_ none _ _ _ _ _ _
    · intro y eP eT eF ef eg ew
      refine r_iload dX0_away_32 rfl ?_
      refine r_aload_n dX0_away_34 rfl ?_
      refine r_get bX0 0 (by decide) q246 dX0_away_35 rfl rfl ?_
      refine r_callV (as := []) okX1_everybody bX1 rfl rfl q1223 dX0_away_38 (Nat.le_of_ble_eq_true rfl) rfl (Nat.le_of_ble_eq_true rfl) (Nat.le_of_ble_eq_true rfl) (Nat.le_of_ble_eq_true rfl) (pX1_everybody rfl ?_)
      rw [shl1m hn]
      refine r_icmp_gt 111 dX0_away_41 (by decide) (fun _ => ?_) (fun c_ => absurd (nI_lt (by omega) (by omega)) c_)
      refine r_iload_n dX0_away_111 rfl ?_
      refine r_iconst 1 dX0_away_112 (by decide) ?_
      refine r_icmp_eq 121 dX0_away_113 (by decide) (fun c_113 => ?_) (fun c_113 => ?_)
      · refine r_iload_n dX0_away_121 rfl ?_
        refine r_goto 129 dX0_away_122 (by decide) ?_
        exact r_iret dX0_away_129 rfl (Nat.le_of_ble_eq_true rfl) (Nat.le_of_ble_eq_true rfl) (qi (by first | rw [if_pos (Or.inr c_113)] | (have q : ¬ awF kN ow lk ag n th j (2 ^ n) = -1 := c_118; rw [if_neg (fun z => z.elim q c_113)]) | (have q : awF kN ow lk ag n th j (2 ^ n) = -1 := c_118; rw [if_pos (Or.inl q)])) (hok j hj rfl hw _ _ _ _ _ _))
      · refine r_iload_n dX0_away_116 rfl ?_
        refine r_iconst (-1) dX0_away_117 (by decide) ?_
        refine r_icmp_ne 125 dX0_away_118 (by decide) (fun c_118 => ?_) (fun c_118 => ?_)
        · refine r_iload_n dX0_away_125 rfl ?_
          refine r_callS (as := [_]) okJ18_bitCount q1257 dX0_away_126 (Nat.le_of_ble_eq_true rfl) rfl (Nat.le_of_ble_eq_true rfl) (Nat.le_of_ble_eq_true rfl) (Nat.le_of_ble_eq_true rfl) (pJ18_bitCount ?_)
          exact r_iret dX0_away_129 rfl (Nat.le_of_ble_eq_true rfl) (Nat.le_of_ble_eq_true rfl) (qi (by first | rw [if_pos (Or.inr c_113)] | (have q : ¬ awF kN ow lk ag n th j (2 ^ n) = -1 := c_118; rw [if_neg (fun z => z.elim q c_113)]) | (have q : awF kN ow lk ag n th j (2 ^ n) = -1 := c_118; rw [if_pos (Or.inl q)])) (hok j hj rfl hw _ _ _ _ _ _))
        · refine r_iload_n dX0_away_121 rfl ?_
          refine r_goto 129 dX0_away_122 (by decide) ?_
          exact r_iret dX0_away_129 rfl (Nat.le_of_ble_eq_true rfl) (Nat.le_of_ble_eq_true rfl) (qi (by first | rw [if_pos (Or.inr c_113)] | (have q : ¬ awF kN ow lk ag n th j (2 ^ n) = -1 := c_118; rw [if_neg (fun z => z.elim q c_113)]) | (have q : awF kN ow lk ag n th j (2 ^ n) = -1 := c_118; rw [if_pos (Or.inl q)])) (hok j hj rfl hw _ _ _ _ _ _))
    · intro k hk2 ih y eP eT eF ef eg ew
      refine r_iload dX0_away_32 rfl ?_
      refine r_aload_n dX0_away_34 rfl ?_
      refine r_get bX0 0 (by decide) q246 dX0_away_35 rfl rfl ?_
      refine r_callV (as := []) okX1_everybody bX1 rfl rfl q1223 dX0_away_38 (Nat.le_of_ble_eq_true rfl) rfl (Nat.le_of_ble_eq_true rfl) (Nat.le_of_ble_eq_true rfl) (Nat.le_of_ble_eq_true rfl) (pX1_everybody rfl ?_)
      rw [shl1m hn]
      refine r_icmp_gt 111 dX0_away_41 (by decide) (fun c_ => absurd c_ (nI_nlt (by omega) (by omega))) (fun _ => ?_)
      refine r_iload_n dX0_away_44 rfl ?_
      refine r_iconst (-1) dX0_away_45 (by decide) ?_
      refine r_icmp_eq 61 dX0_away_46 (by decide) (fun c_46 => ?_) (fun c_46 => ?_)
      · refine r_iconst 1 dX0_away_61 (by decide) ?_
        refine r_goto 66 dX0_away_62 (by decide) ?_
        refine r_istore dX0_away_66 (Nat.le_of_ble_eq_true rfl) ?_
        refine r_iload dX0_away_68 rfl ?_
        refine r_if_eq 105 dX0_away_70 (by decide) (fun c_70 => ?_) (fun c_70 => ?_)
        · refine r_iincV dX0_away_105 rfl (Nat.le_of_ble_eq_true rfl) (incN _) ?_
          refine r_goto 32 dX0_away_108 (by decide) ?_
          first | exact absurd c_70 (by decide) | exact absurd rfl c_70 | (have q1 := b2i_n.mp c_79; rw [awF, if_neg (fun z => by rw [q1] at z; exact absurd z.1 (by decide))] at ih; exact ih _ _ _ _ _ _ _) | (have q1 := b2i_0.mp c_79; have q3 := b2i_n.mp c_99; have q2 : awF kN ow lk ag n th j k = -1 ∨ bcF (nI k) < bcF (awF kN ow lk ag n th j k) := (by first | exact Or.inl c_46 | exact Or.inr (Int32.not_le.mp c_58)); rw [has_anot hn hk2 hj, q1] at q3; rw [awF, if_pos ⟨q1, q2, q3⟩] at ih; exact ih _ _ _ _ _ _ _) | (have q1 := b2i_0.mp c_79; have q3 := b2i_0.mp c_99; rw [has_anot hn hk2 hj, q1] at q3; have q3 : glF kN ow lk ag n th j (allS n &&& (nI k ^^^ (-1))) = false := q3; rw [awF, if_neg (fun z => by rw [q3] at z; exact absurd z.2.2 (by decide))] at ih; exact ih _ _ _ _ _ _ _) | (rw [awF, if_neg (fun z => z.2.1.elim c_46 (fun w => Int32.not_le.mpr w c_58))] at ih; exact ih _ _ _ _ _ _ _)
        · refine r_iload dX0_away_73 rfl ?_
          refine r_iload_n dX0_away_75 rfl ?_
          refine r_callS (as := [_, _]) okX0_has q974 dX0_away_76 (Nat.le_of_ble_eq_true rfl) rfl (Nat.le_of_ble_eq_true rfl) (Nat.le_of_ble_eq_true rfl) (Nat.le_of_ble_eq_true rfl) (pX0_has ?_)
          refine r_if_ne 105 dX0_away_79 (by decide) (fun c_79 => ?_) (fun c_79 => ?_)
          · refine r_iincV dX0_away_105 rfl (Nat.le_of_ble_eq_true rfl) (incN _) ?_
            refine r_goto 32 dX0_away_108 (by decide) ?_
            first | exact absurd c_70 (by decide) | exact absurd rfl c_70 | (have q1 := b2i_n.mp c_79; rw [awF, if_neg (fun z => by rw [q1] at z; exact absurd z.1 (by decide))] at ih; exact ih _ _ _ _ _ _ _) | (have q1 := b2i_0.mp c_79; have q3 := b2i_n.mp c_99; have q2 : awF kN ow lk ag n th j k = -1 ∨ bcF (nI k) < bcF (awF kN ow lk ag n th j k) := (by first | exact Or.inl c_46 | exact Or.inr (Int32.not_le.mp c_58)); rw [has_anot hn hk2 hj, q1] at q3; rw [awF, if_pos ⟨q1, q2, q3⟩] at ih; exact ih _ _ _ _ _ _ _) | (have q1 := b2i_0.mp c_79; have q3 := b2i_0.mp c_99; rw [has_anot hn hk2 hj, q1] at q3; have q3 : glF kN ow lk ag n th j (allS n &&& (nI k ^^^ (-1))) = false := q3; rw [awF, if_neg (fun z => by rw [q3] at z; exact absurd z.2.2 (by decide))] at ih; exact ih _ _ _ _ _ _ _) | (rw [awF, if_neg (fun z => z.2.1.elim c_46 (fun w => Int32.not_le.mpr w c_58))] at ih; exact ih _ _ _ _ _ _ _)
          · refine r_aload_n dX0_away_82 rfl ?_
            refine r_aload_n dX0_away_83 rfl ?_
            refine r_get bX0 0 (by decide) q246 dX0_away_84 rfl rfl ?_
            refine r_callV (as := []) okX1_everybody bX1 rfl rfl q1223 dX0_away_87 (Nat.le_of_ble_eq_true rfl) rfl (Nat.le_of_ble_eq_true rfl) (Nat.le_of_ble_eq_true rfl) (Nat.le_of_ble_eq_true rfl) (pX1_everybody rfl ?_)
            rw [shl1m hn]
            refine r_iload dX0_away_90 rfl ?_
            refine r_iconst (-1) dX0_away_92 (by decide) ?_
            refine r_ixor dX0_away_93 ?_
            refine r_iand dX0_away_94 ?_
            refine r_iload_n dX0_away_95 rfl ?_
            refine r_callV (as := [_, _]) okX0_isGlad bX0 rfl rfl q1284 dX0_away_96 (Nat.le_of_ble_eq_true rfl) rfl (Nat.le_of_ble_eq_true rfl) (Nat.le_of_ble_eq_true rfl) (Nat.le_of_ble_eq_true rfl) (pX0_isGlad hn hL hP hj ?_)
            rintro eP eT eF ef eg ew
            refine r_if_eq 105 dX0_away_99 (by decide) (fun c_99 => ?_) (fun c_99 => ?_)
            · refine r_iincV dX0_away_105 rfl (Nat.le_of_ble_eq_true rfl) (incN _) ?_
              refine r_goto 32 dX0_away_108 (by decide) ?_
              first | exact absurd c_70 (by decide) | exact absurd rfl c_70 | (have q1 := b2i_n.mp c_79; rw [awF, if_neg (fun z => by rw [q1] at z; exact absurd z.1 (by decide))] at ih; exact ih _ _ _ _ _ _ _) | (have q1 := b2i_0.mp c_79; have q3 := b2i_n.mp c_99; have q2 : awF kN ow lk ag n th j k = -1 ∨ bcF (nI k) < bcF (awF kN ow lk ag n th j k) := (by first | exact Or.inl c_46 | exact Or.inr (Int32.not_le.mp c_58)); rw [has_anot hn hk2 hj, q1] at q3; rw [awF, if_pos ⟨q1, q2, q3⟩] at ih; exact ih _ _ _ _ _ _ _) | (have q1 := b2i_0.mp c_79; have q3 := b2i_0.mp c_99; rw [has_anot hn hk2 hj, q1] at q3; have q3 : glF kN ow lk ag n th j (allS n &&& (nI k ^^^ (-1))) = false := q3; rw [awF, if_neg (fun z => by rw [q3] at z; exact absurd z.2.2 (by decide))] at ih; exact ih _ _ _ _ _ _ _) | (rw [awF, if_neg (fun z => z.2.1.elim c_46 (fun w => Int32.not_le.mpr w c_58))] at ih; exact ih _ _ _ _ _ _ _)
            · refine r_iload dX0_away_102 rfl ?_
              refine r_istore_n dX0_away_104 (Nat.le_of_ble_eq_true rfl) ?_
              refine r_iincV dX0_away_105 rfl (Nat.le_of_ble_eq_true rfl) (incN _) ?_
              refine r_goto 32 dX0_away_108 (by decide) ?_
              first | exact absurd c_70 (by decide) | exact absurd rfl c_70 | (have q1 := b2i_n.mp c_79; rw [awF, if_neg (fun z => by rw [q1] at z; exact absurd z.1 (by decide))] at ih; exact ih _ _ _ _ _ _ _) | (have q1 := b2i_0.mp c_79; have q3 := b2i_n.mp c_99; have q2 : awF kN ow lk ag n th j k = -1 ∨ bcF (nI k) < bcF (awF kN ow lk ag n th j k) := (by first | exact Or.inl c_46 | exact Or.inr (Int32.not_le.mp c_58)); rw [has_anot hn hk2 hj, q1] at q3; rw [awF, if_pos ⟨q1, q2, q3⟩] at ih; exact ih _ _ _ _ _ _ _) | (have q1 := b2i_0.mp c_79; have q3 := b2i_0.mp c_99; rw [has_anot hn hk2 hj, q1] at q3; have q3 : glF kN ow lk ag n th j (allS n &&& (nI k ^^^ (-1))) = false := q3; rw [awF, if_neg (fun z => by rw [q3] at z; exact absurd z.2.2 (by decide))] at ih; exact ih _ _ _ _ _ _ _) | (rw [awF, if_neg (fun z => z.2.1.elim c_46 (fun w => Int32.not_le.mpr w c_58))] at ih; exact ih _ _ _ _ _ _ _)
      · refine r_iload dX0_away_49 rfl ?_
        refine r_callS (as := [_]) okJ18_bitCount q1257 dX0_away_51 (Nat.le_of_ble_eq_true rfl) rfl (Nat.le_of_ble_eq_true rfl) (Nat.le_of_ble_eq_true rfl) (Nat.le_of_ble_eq_true rfl) (pJ18_bitCount ?_)
        refine r_iload_n dX0_away_54 rfl ?_
        refine r_callS (as := [_]) okJ18_bitCount q1257 dX0_away_55 (Nat.le_of_ble_eq_true rfl) rfl (Nat.le_of_ble_eq_true rfl) (Nat.le_of_ble_eq_true rfl) (Nat.le_of_ble_eq_true rfl) (pJ18_bitCount ?_)
        refine r_icmp_ge 65 dX0_away_58 (by decide) (fun c_58 => ?_) (fun c_58 => ?_)
        · refine r_iconst 0 dX0_away_65 (by decide) ?_
          refine r_istore dX0_away_66 (Nat.le_of_ble_eq_true rfl) ?_
          refine r_iload dX0_away_68 rfl ?_
          refine r_if_eq 105 dX0_away_70 (by decide) (fun c_70 => ?_) (fun c_70 => ?_)
          · refine r_iincV dX0_away_105 rfl (Nat.le_of_ble_eq_true rfl) (incN _) ?_
            refine r_goto 32 dX0_away_108 (by decide) ?_
            first | exact absurd c_70 (by decide) | exact absurd rfl c_70 | (have q1 := b2i_n.mp c_79; rw [awF, if_neg (fun z => by rw [q1] at z; exact absurd z.1 (by decide))] at ih; exact ih _ _ _ _ _ _ _) | (have q1 := b2i_0.mp c_79; have q3 := b2i_n.mp c_99; have q2 : awF kN ow lk ag n th j k = -1 ∨ bcF (nI k) < bcF (awF kN ow lk ag n th j k) := (by first | exact Or.inl c_46 | exact Or.inr (Int32.not_le.mp c_58)); rw [has_anot hn hk2 hj, q1] at q3; rw [awF, if_pos ⟨q1, q2, q3⟩] at ih; exact ih _ _ _ _ _ _ _) | (have q1 := b2i_0.mp c_79; have q3 := b2i_0.mp c_99; rw [has_anot hn hk2 hj, q1] at q3; have q3 : glF kN ow lk ag n th j (allS n &&& (nI k ^^^ (-1))) = false := q3; rw [awF, if_neg (fun z => by rw [q3] at z; exact absurd z.2.2 (by decide))] at ih; exact ih _ _ _ _ _ _ _) | (rw [awF, if_neg (fun z => z.2.1.elim c_46 (fun w => Int32.not_le.mpr w c_58))] at ih; exact ih _ _ _ _ _ _ _)
          · refine r_iload dX0_away_73 rfl ?_
            refine r_iload_n dX0_away_75 rfl ?_
            refine r_callS (as := [_, _]) okX0_has q974 dX0_away_76 (Nat.le_of_ble_eq_true rfl) rfl (Nat.le_of_ble_eq_true rfl) (Nat.le_of_ble_eq_true rfl) (Nat.le_of_ble_eq_true rfl) (pX0_has ?_)
            refine r_if_ne 105 dX0_away_79 (by decide) (fun c_79 => ?_) (fun c_79 => ?_)
            · refine r_iincV dX0_away_105 rfl (Nat.le_of_ble_eq_true rfl) (incN _) ?_
              refine r_goto 32 dX0_away_108 (by decide) ?_
              first | exact absurd c_70 (by decide) | exact absurd rfl c_70 | (have q1 := b2i_n.mp c_79; rw [awF, if_neg (fun z => by rw [q1] at z; exact absurd z.1 (by decide))] at ih; exact ih _ _ _ _ _ _ _) | (have q1 := b2i_0.mp c_79; have q3 := b2i_n.mp c_99; have q2 : awF kN ow lk ag n th j k = -1 ∨ bcF (nI k) < bcF (awF kN ow lk ag n th j k) := (by first | exact Or.inl c_46 | exact Or.inr (Int32.not_le.mp c_58)); rw [has_anot hn hk2 hj, q1] at q3; rw [awF, if_pos ⟨q1, q2, q3⟩] at ih; exact ih _ _ _ _ _ _ _) | (have q1 := b2i_0.mp c_79; have q3 := b2i_0.mp c_99; rw [has_anot hn hk2 hj, q1] at q3; have q3 : glF kN ow lk ag n th j (allS n &&& (nI k ^^^ (-1))) = false := q3; rw [awF, if_neg (fun z => by rw [q3] at z; exact absurd z.2.2 (by decide))] at ih; exact ih _ _ _ _ _ _ _) | (rw [awF, if_neg (fun z => z.2.1.elim c_46 (fun w => Int32.not_le.mpr w c_58))] at ih; exact ih _ _ _ _ _ _ _)
            · refine r_aload_n dX0_away_82 rfl ?_
              refine r_aload_n dX0_away_83 rfl ?_
              refine r_get bX0 0 (by decide) q246 dX0_away_84 rfl rfl ?_
              refine r_callV (as := []) okX1_everybody bX1 rfl rfl q1223 dX0_away_87 (Nat.le_of_ble_eq_true rfl) rfl (Nat.le_of_ble_eq_true rfl) (Nat.le_of_ble_eq_true rfl) (Nat.le_of_ble_eq_true rfl) (pX1_everybody rfl ?_)
              rw [shl1m hn]
              refine r_iload dX0_away_90 rfl ?_
              refine r_iconst (-1) dX0_away_92 (by decide) ?_
              refine r_ixor dX0_away_93 ?_
              refine r_iand dX0_away_94 ?_
              refine r_iload_n dX0_away_95 rfl ?_
              refine r_callV (as := [_, _]) okX0_isGlad bX0 rfl rfl q1284 dX0_away_96 (Nat.le_of_ble_eq_true rfl) rfl (Nat.le_of_ble_eq_true rfl) (Nat.le_of_ble_eq_true rfl) (Nat.le_of_ble_eq_true rfl) (pX0_isGlad hn hL hP hj ?_)
              rintro eP eT eF ef eg ew
              refine r_if_eq 105 dX0_away_99 (by decide) (fun c_99 => ?_) (fun c_99 => ?_)
              · refine r_iincV dX0_away_105 rfl (Nat.le_of_ble_eq_true rfl) (incN _) ?_
                refine r_goto 32 dX0_away_108 (by decide) ?_
                first | exact absurd c_70 (by decide) | exact absurd rfl c_70 | (have q1 := b2i_n.mp c_79; rw [awF, if_neg (fun z => by rw [q1] at z; exact absurd z.1 (by decide))] at ih; exact ih _ _ _ _ _ _ _) | (have q1 := b2i_0.mp c_79; have q3 := b2i_n.mp c_99; have q2 : awF kN ow lk ag n th j k = -1 ∨ bcF (nI k) < bcF (awF kN ow lk ag n th j k) := (by first | exact Or.inl c_46 | exact Or.inr (Int32.not_le.mp c_58)); rw [has_anot hn hk2 hj, q1] at q3; rw [awF, if_pos ⟨q1, q2, q3⟩] at ih; exact ih _ _ _ _ _ _ _) | (have q1 := b2i_0.mp c_79; have q3 := b2i_0.mp c_99; rw [has_anot hn hk2 hj, q1] at q3; have q3 : glF kN ow lk ag n th j (allS n &&& (nI k ^^^ (-1))) = false := q3; rw [awF, if_neg (fun z => by rw [q3] at z; exact absurd z.2.2 (by decide))] at ih; exact ih _ _ _ _ _ _ _) | (rw [awF, if_neg (fun z => z.2.1.elim c_46 (fun w => Int32.not_le.mpr w c_58))] at ih; exact ih _ _ _ _ _ _ _)
              · refine r_iload dX0_away_102 rfl ?_
                refine r_istore_n dX0_away_104 (Nat.le_of_ble_eq_true rfl) ?_
                refine r_iincV dX0_away_105 rfl (Nat.le_of_ble_eq_true rfl) (incN _) ?_
                refine r_goto 32 dX0_away_108 (by decide) ?_
                first | exact absurd c_70 (by decide) | exact absurd rfl c_70 | (have q1 := b2i_n.mp c_79; rw [awF, if_neg (fun z => by rw [q1] at z; exact absurd z.1 (by decide))] at ih; exact ih _ _ _ _ _ _ _) | (have q1 := b2i_0.mp c_79; have q3 := b2i_n.mp c_99; have q2 : awF kN ow lk ag n th j k = -1 ∨ bcF (nI k) < bcF (awF kN ow lk ag n th j k) := (by first | exact Or.inl c_46 | exact Or.inr (Int32.not_le.mp c_58)); rw [has_anot hn hk2 hj, q1] at q3; rw [awF, if_pos ⟨q1, q2, q3⟩] at ih; exact ih _ _ _ _ _ _ _) | (have q1 := b2i_0.mp c_79; have q3 := b2i_0.mp c_99; rw [has_anot hn hk2 hj, q1] at q3; have q3 : glF kN ow lk ag n th j (allS n &&& (nI k ^^^ (-1))) = false := q3; rw [awF, if_neg (fun z => by rw [q3] at z; exact absurd z.2.2 (by decide))] at ih; exact ih _ _ _ _ _ _ _) | (rw [awF, if_neg (fun z => z.2.1.elim c_46 (fun w => Int32.not_le.mpr w c_58))] at ih; exact ih _ _ _ _ _ _ _)
        · refine r_iconst 1 dX0_away_61 (by decide) ?_
          refine r_goto 66 dX0_away_62 (by decide) ?_
          refine r_istore dX0_away_66 (Nat.le_of_ble_eq_true rfl) ?_
          refine r_iload dX0_away_68 rfl ?_
          refine r_if_eq 105 dX0_away_70 (by decide) (fun c_70 => ?_) (fun c_70 => ?_)
          · refine r_iincV dX0_away_105 rfl (Nat.le_of_ble_eq_true rfl) (incN _) ?_
            refine r_goto 32 dX0_away_108 (by decide) ?_
            first | exact absurd c_70 (by decide) | exact absurd rfl c_70 | (have q1 := b2i_n.mp c_79; rw [awF, if_neg (fun z => by rw [q1] at z; exact absurd z.1 (by decide))] at ih; exact ih _ _ _ _ _ _ _) | (have q1 := b2i_0.mp c_79; have q3 := b2i_n.mp c_99; have q2 : awF kN ow lk ag n th j k = -1 ∨ bcF (nI k) < bcF (awF kN ow lk ag n th j k) := (by first | exact Or.inl c_46 | exact Or.inr (Int32.not_le.mp c_58)); rw [has_anot hn hk2 hj, q1] at q3; rw [awF, if_pos ⟨q1, q2, q3⟩] at ih; exact ih _ _ _ _ _ _ _) | (have q1 := b2i_0.mp c_79; have q3 := b2i_0.mp c_99; rw [has_anot hn hk2 hj, q1] at q3; have q3 : glF kN ow lk ag n th j (allS n &&& (nI k ^^^ (-1))) = false := q3; rw [awF, if_neg (fun z => by rw [q3] at z; exact absurd z.2.2 (by decide))] at ih; exact ih _ _ _ _ _ _ _) | (rw [awF, if_neg (fun z => z.2.1.elim c_46 (fun w => Int32.not_le.mpr w c_58))] at ih; exact ih _ _ _ _ _ _ _)
          · refine r_iload dX0_away_73 rfl ?_
            refine r_iload_n dX0_away_75 rfl ?_
            refine r_callS (as := [_, _]) okX0_has q974 dX0_away_76 (Nat.le_of_ble_eq_true rfl) rfl (Nat.le_of_ble_eq_true rfl) (Nat.le_of_ble_eq_true rfl) (Nat.le_of_ble_eq_true rfl) (pX0_has ?_)
            refine r_if_ne 105 dX0_away_79 (by decide) (fun c_79 => ?_) (fun c_79 => ?_)
            · refine r_iincV dX0_away_105 rfl (Nat.le_of_ble_eq_true rfl) (incN _) ?_
              refine r_goto 32 dX0_away_108 (by decide) ?_
              first | exact absurd c_70 (by decide) | exact absurd rfl c_70 | (have q1 := b2i_n.mp c_79; rw [awF, if_neg (fun z => by rw [q1] at z; exact absurd z.1 (by decide))] at ih; exact ih _ _ _ _ _ _ _) | (have q1 := b2i_0.mp c_79; have q3 := b2i_n.mp c_99; have q2 : awF kN ow lk ag n th j k = -1 ∨ bcF (nI k) < bcF (awF kN ow lk ag n th j k) := (by first | exact Or.inl c_46 | exact Or.inr (Int32.not_le.mp c_58)); rw [has_anot hn hk2 hj, q1] at q3; rw [awF, if_pos ⟨q1, q2, q3⟩] at ih; exact ih _ _ _ _ _ _ _) | (have q1 := b2i_0.mp c_79; have q3 := b2i_0.mp c_99; rw [has_anot hn hk2 hj, q1] at q3; have q3 : glF kN ow lk ag n th j (allS n &&& (nI k ^^^ (-1))) = false := q3; rw [awF, if_neg (fun z => by rw [q3] at z; exact absurd z.2.2 (by decide))] at ih; exact ih _ _ _ _ _ _ _) | (rw [awF, if_neg (fun z => z.2.1.elim c_46 (fun w => Int32.not_le.mpr w c_58))] at ih; exact ih _ _ _ _ _ _ _)
            · refine r_aload_n dX0_away_82 rfl ?_
              refine r_aload_n dX0_away_83 rfl ?_
              refine r_get bX0 0 (by decide) q246 dX0_away_84 rfl rfl ?_
              refine r_callV (as := []) okX1_everybody bX1 rfl rfl q1223 dX0_away_87 (Nat.le_of_ble_eq_true rfl) rfl (Nat.le_of_ble_eq_true rfl) (Nat.le_of_ble_eq_true rfl) (Nat.le_of_ble_eq_true rfl) (pX1_everybody rfl ?_)
              rw [shl1m hn]
              refine r_iload dX0_away_90 rfl ?_
              refine r_iconst (-1) dX0_away_92 (by decide) ?_
              refine r_ixor dX0_away_93 ?_
              refine r_iand dX0_away_94 ?_
              refine r_iload_n dX0_away_95 rfl ?_
              refine r_callV (as := [_, _]) okX0_isGlad bX0 rfl rfl q1284 dX0_away_96 (Nat.le_of_ble_eq_true rfl) rfl (Nat.le_of_ble_eq_true rfl) (Nat.le_of_ble_eq_true rfl) (Nat.le_of_ble_eq_true rfl) (pX0_isGlad hn hL hP hj ?_)
              rintro eP eT eF ef eg ew
              refine r_if_eq 105 dX0_away_99 (by decide) (fun c_99 => ?_) (fun c_99 => ?_)
              · refine r_iincV dX0_away_105 rfl (Nat.le_of_ble_eq_true rfl) (incN _) ?_
                refine r_goto 32 dX0_away_108 (by decide) ?_
                first | exact absurd c_70 (by decide) | exact absurd rfl c_70 | (have q1 := b2i_n.mp c_79; rw [awF, if_neg (fun z => by rw [q1] at z; exact absurd z.1 (by decide))] at ih; exact ih _ _ _ _ _ _ _) | (have q1 := b2i_0.mp c_79; have q3 := b2i_n.mp c_99; have q2 : awF kN ow lk ag n th j k = -1 ∨ bcF (nI k) < bcF (awF kN ow lk ag n th j k) := (by first | exact Or.inl c_46 | exact Or.inr (Int32.not_le.mp c_58)); rw [has_anot hn hk2 hj, q1] at q3; rw [awF, if_pos ⟨q1, q2, q3⟩] at ih; exact ih _ _ _ _ _ _ _) | (have q1 := b2i_0.mp c_79; have q3 := b2i_0.mp c_99; rw [has_anot hn hk2 hj, q1] at q3; have q3 : glF kN ow lk ag n th j (allS n &&& (nI k ^^^ (-1))) = false := q3; rw [awF, if_neg (fun z => by rw [q3] at z; exact absurd z.2.2 (by decide))] at ih; exact ih _ _ _ _ _ _ _) | (rw [awF, if_neg (fun z => z.2.1.elim c_46 (fun w => Int32.not_le.mpr w c_58))] at ih; exact ih _ _ _ _ _ _ _)
              · refine r_iload dX0_away_102 rfl ?_
                refine r_istore_n dX0_away_104 (Nat.le_of_ble_eq_true rfl) ?_
                refine r_iincV dX0_away_105 rfl (Nat.le_of_ble_eq_true rfl) (incN _) ?_
                refine r_goto 32 dX0_away_108 (by decide) ?_
                first | exact absurd c_70 (by decide) | exact absurd rfl c_70 | (have q1 := b2i_n.mp c_79; rw [awF, if_neg (fun z => by rw [q1] at z; exact absurd z.1 (by decide))] at ih; exact ih _ _ _ _ _ _ _) | (have q1 := b2i_0.mp c_79; have q3 := b2i_n.mp c_99; have q2 : awF kN ow lk ag n th j k = -1 ∨ bcF (nI k) < bcF (awF kN ow lk ag n th j k) := (by first | exact Or.inl c_46 | exact Or.inr (Int32.not_le.mp c_58)); rw [has_anot hn hk2 hj, q1] at q3; rw [awF, if_pos ⟨q1, q2, q3⟩] at ih; exact ih _ _ _ _ _ _ _) | (have q1 := b2i_0.mp c_79; have q3 := b2i_0.mp c_99; rw [has_anot hn hk2 hj, q1] at q3; have q3 : glF kN ow lk ag n th j (allS n &&& (nI k ^^^ (-1))) = false := q3; rw [awF, if_neg (fun z => by rw [q3] at z; exact absurd z.2.2 (by decide))] at ih; exact ih _ _ _ _ _ _ _) | (rw [awF, if_neg (fun z => z.2.1.elim c_46 (fun w => Int32.not_le.mpr w c_58))] at ih; exact ih _ _ _ _ _ _ _)
  refine r_aload_n dX0_away_0 rfl ?_
  refine r_get bX0 0 (by decide) q246 dX0_away_1 rfl rfl ?_
  refine r_iload_n dX0_away_4 rfl ?_
  refine r_callV (as := [_]) okX1_isLooker bX1 rfl rfl q519 dX0_away_5 (Nat.le_of_ble_eq_true rfl) rfl (Nat.le_of_ble_eq_true rfl) (Nat.le_of_ble_eq_true rfl) (Nat.le_of_ble_eq_true rfl) (pX1_isLooker rfl ?_)
  refine r_if_eq 20 dX0_away_8 (by decide) (fun c_8 => ?_) (fun c_8 => ?_)
  · refine r_aload_n dX0_away_20 rfl ?_
    refine r_bipush (-2) dX0_away_21 (by decide) ?_
    refine r_callV (as := [_]) okX0_no bX0 rfl rfl q381 dX0_away_23 (Nat.le_of_ble_eq_true rfl) rfl (Nat.le_of_ble_eq_true rfl) (Nat.le_of_ble_eq_true rfl) (Nat.le_of_ble_eq_true rfl) (pX0_no 2 (by decide) (by decide) ?_)
    exact r_iret dX0_away_26 rfl (Nat.le_of_ble_eq_true rfl) (Nat.le_of_ble_eq_true rfl) (hbad (by simp_all [b2i_0]))
  · refine r_iload_n dX0_away_11 rfl ?_
    refine r_iconst 0 dX0_away_12 (by decide) ?_
    refine r_iconst 1 dX0_away_13 (by decide) ?_
    refine r_callS (as := [_, _, _]) okX0_isIn q378 dX0_away_14 (Nat.le_of_ble_eq_true rfl) rfl (Nat.le_of_ble_eq_true rfl) (Nat.le_of_ble_eq_true rfl) (Nat.le_of_ble_eq_true rfl) (pX0_isIn ?_)
    refine r_if_ne 27 dX0_away_17 (by decide) (fun c_17 => ?_) (fun c_17 => ?_)
    · obtain ⟨j, hj, e⟩ := inB_m (b2i_n.mp c_8) (by omega)
      exact hgo j hj e (b2i_n.mp c_17)
    · refine r_aload_n dX0_away_20 rfl ?_
      refine r_bipush (-2) dX0_away_21 (by decide) ?_
      refine r_callV (as := [_]) okX0_no bX0 rfl rfl q381 dX0_away_23 (Nat.le_of_ble_eq_true rfl) rfl (Nat.le_of_ble_eq_true rfl) (Nat.le_of_ble_eq_true rfl) (Nat.le_of_ble_eq_true rfl) (pX0_no 2 (by decide) (by decide) ?_)
      exact r_iret dX0_away_26 rfl (Nat.le_of_ble_eq_true rfl) (Nat.le_of_ble_eq_true rfl) (hbad (by simp_all [b2i_0]))
theorem mx_l {a b : Int32} (h : b ≤ a) : mxF a b = a := if_neg (Int32.not_lt.mpr h)
theorem mx_r {a b : Int32} (h : ¬ b ≤ a) : mxF a b = b := if_pos (Int32.not_le.mp h)
theorem gc_nn {s : Int32} (hn : n ≤ 8) : (-1 : Int32) < gcF kN ow lk ag n th s := by
  have := cntI_le (fun l => hasB s (nI l) && gladB th ((evR kN ow lk ag n th s).2.1 l) (ow l)) n
  exact Int32.lt_of_lt_of_le (by decide) (nI_pos' (by omega))
/-- the best of a crowd doesn't hang on how it begins -/
theorem cr_ind {q i0 i1 : Int32} : ∀ k, (crF kN ow lk ag n th q i0 k).2 = (crF kN ow lk ag n th q i1 k).2 ∧ ((crF kN ow lk ag n th q i0 k).2 ≠ -1 → (crF kN ow lk ag n th q i0 k).1 = (crF kN ow lk ag n th q i1 k).1)
  | 0 => ⟨rfl, fun z => absurd rfl z⟩
  | k + 1 => by
    have ih := cr_ind (q := q) (i0 := i0) (i1 := i1) k
    simp only [crF]
    rw [← ih.1]
    split
    · exact ⟨rfl, fun _ => rfl⟩
    · exact ⟨ih.1, ih.2⟩
theorem cr_mono {q i0 : Int32} (hn : n ≤ 8) {j : Nat} (hj : bcF (nI j) = q) : ∀ k, j < k → (crF kN ow lk ag n th q i0 k).2 ≠ -1
  | 0, h => by omega
  | k + 1, h => by
    simp only [crF]
    split
    · intro z
      have := gc_nn (th := th) (kN := kN) (ow := ow) (lk := lk) (ag := ag) (s := nI k) hn
      have z : gcF kN ow lk ag n th (nI k) = -1 := z
      rw [z] at this
      exact absurd this (by decide)
    · rename_i g
      by_cases e : j = k
      · subst e
        intro z
        refine g ⟨hj, ?_⟩
        rw [z]
        exact gc_nn hn
      · exact cr_mono hn hj k (by omega)
theorem bc_one : (List.range 9).all (fun q => decide (bcF (nI (2 ^ q - 1)) = nI q)) = true := by decide +kernel
theorem cr_eq {q : Int32} (hn : n ≤ 8) (h : inB q 0 (nI n) = true) : crF kN ow lk ag n th q 0 (2 ^ n) = crF kN ow lk ag n th q (-1) (2 ^ n) := by
  obtain ⟨z, hz, rfl⟩ := inB_ex n (nI_toInt (by omega)) h
  have h1 := of_decide_eq_true (List.all_eq_true.mp bc_one z (List.mem_range.mpr (by omega)))
  have h2 : 2 ^ z ≤ 2 ^ n := Nat.pow_le_pow_right (by decide) hz
  have h4 := p2_pos z
  have h3 := cr_mono (th := th) (kN := kN) (ow := ow) (lk := lk) (ag := ag) (i0 := 0) hn h1 (2 ^ n) (by omega)
  have h5 := cr_ind (th := th) (kN := kN) (ow := ow) (lk := lk) (ag := ag) (n := n) (q := nI z) (i0 := 0) (i1 := -1) (2 ^ n)
  exact Prod.ext (h5.2 h3) h5.1
theorem cr_ge {q i0 : Int32} (hn : n ≤ 8) : ∀ k, (-1 : Int32) ≤ (crF kN ow lk ag n th q i0 k).2
  | 0 => by
    show (-1 : Int32) ≤ -1
    decide
  | k + 1 => by
    simp only [crF]
    split
    · exact Int32.le_of_lt (gc_nn hn)
    · exact cr_ge hn k
theorem pX0_crowd {q w : Int32} (hn : n ≤ 8) (hL : LkI lc r3 nl kN ow n) (hP : ThI th) (hbad : (inB q 0 (nI n) && inB w 0 1) = false → Q (some (.int (-2))) (r0, (xC (.ref 2) iv tP tL tA tK tC tS tH tN tE tZ tf mP mf eP eT eF ef eg ew rx gx wx hv tp td (upd rf 2 (rf 2 + 1)) rc ic), (wC th pf nl ag lk co sh hs (nI n) ev se lc), r3)) (hok : inB q 0 (nI n) = true → inB w 0 1 = true → ∀ (eP eT eF : Nat → Int32) (ef eg : Int32) (ew : Value), Q (some (.int (if w = 0 then (crF kN ow lk ag n th q (-1) (2 ^ n)).2 else (crF kN ow lk ag n th q (-1) (2 ^ n)).1))) (r0, (xC (.ref 2) iv tP tL tA tK tC tS tH tN tE tZ tf mP mf eP eT eF ef eg ew rx gx wx hv tp td rf rc ic), (wC th pf nl ag lk co sh hs (nI n) ev se lc), r3)) : AMet mX0_crowd 10 0 0 [.ref 1, .int q, .int w] (r0, (xC (.ref 2) iv tP tL tA tK tC tS tH tN tE tZ tf mP mf eP eT eF ef eg ew rx gx wx hv tp td rf rc ic), (wC th pf nl ag lk co sh hs (nI n) ev se lc), r3) Q := by
  refine AMet.ofRch rfl rfl (Nat.le_of_ble_eq_true rfl) ?_
  have h2 := p2_le hn
  have h3 := p2_pos n
  have hgo : inB q 0 (nI n) = true → inB w 0 1 = true → Rch (mX0_crowd, 10, 0, 0, oQ Q) 0 0 31 [some (.ref 1), some (.int q), some (.int w), none, none, none, none] [] (r0, (xC (.ref 2) iv tP tL tA tK tC tS tH tN tE tZ tf mP mf eP eT eF ef eg ew rx gx wx hv tp td rf rc ic), (wC th pf nl ag lk co sh hs (nI n) ev se lc), r3) := by
    intro g1 g2
    have hok := hok g1 g2
    rw [← cr_eq hn g1] at hok
    refine r_iconst 0 dX0_crowd_31 (by decide) ?_
    refine r_istore_n dX0_crowd_32 (Nat.le_of_ble_eq_true rfl) ?_
    refine r_iconst (-1) dX0_crowd_33 (by decide) ?_
    refine r_istore dX0_crowd_34 (Nat.le_of_ble_eq_true rfl) ?_
    refine r_iconst 0 dX0_crowd_36 (by decide) ?_
    refine r_istore dX0_crowd_37 (Nat.le_of_ble_eq_true rfl) ?_
    refine loopUp (N := 2 ^ n) (P := fun k => ∀ (y : Option Value), ∀ (eP eT eF : Nat → Int32) (ef eg : Int32) (ew : Value), Rch (mX0_crowd, 10, 0, 0, oQ Q) 0 0 39 [some (.ref 1), some (.int q), some (.int w), some (.int (crF kN ow lk ag n th q 0 k).1), some (.int (crF kN ow lk ag n th q 0 k).2), some (.int (nI k)), y] [] (r0, (xC (.ref 2) iv tP tL tA tK tC tS tH tN tE tZ tf mP mf eP eT eF ef eg ew rx gx wx hv tp td rf rc ic), (wC th pf nl ag lk co sh hs (nI n) ev se lc), r3)) ?_ ?_ none _ _ _ _ _ _
    · intro y eP eT eF ef eg ew
      refine r_iload dX0_crowd_39 rfl ?_
      refine r_aload_n dX0_crowd_41 rfl ?_
      refine r_get bX0 0 (by decide) q246 dX0_crowd_42 rfl rfl ?_
      refine r_callV (as := []) okX1_everybody bX1 rfl rfl q1223 dX0_crowd_45 (Nat.le_of_ble_eq_true rfl) rfl (Nat.le_of_ble_eq_true rfl) (Nat.le_of_ble_eq_true rfl) (Nat.le_of_ble_eq_true rfl) (pX1_everybody rfl ?_)
      rw [shl1m hn]
      refine r_icmp_gt 111 dX0_crowd_48 (by decide) (fun _ => ?_) (fun c_ => absurd (nI_lt (by omega) (by omega)) c_)
      refine r_iload_n dX0_crowd_111 rfl ?_
      refine r_if_ne 120 dX0_crowd_112 (by decide) (fun c_112 => ?_) (fun c_112 => ?_)
      · refine r_iload_n dX0_crowd_120 rfl ?_
        exact r_iret dX0_crowd_121 rfl (Nat.le_of_ble_eq_true rfl) (Nat.le_of_ble_eq_true rfl) (qi (by first | rw [if_pos c_112] | rw [if_neg c_112]) (hok _ _ _ _ _ _))
      · refine r_iload dX0_crowd_115 rfl ?_
        refine r_goto 121 dX0_crowd_117 (by decide) ?_
        exact r_iret dX0_crowd_121 rfl (Nat.le_of_ble_eq_true rfl) (Nat.le_of_ble_eq_true rfl) (qi (by first | rw [if_pos c_112] | rw [if_neg c_112]) (hok _ _ _ _ _ _))
    · intro k hk2 ih y eP eT eF ef eg ew
      refine r_iload dX0_crowd_39 rfl ?_
      refine r_aload_n dX0_crowd_41 rfl ?_
      refine r_get bX0 0 (by decide) q246 dX0_crowd_42 rfl rfl ?_
      refine r_callV (as := []) okX1_everybody bX1 rfl rfl q1223 dX0_crowd_45 (Nat.le_of_ble_eq_true rfl) rfl (Nat.le_of_ble_eq_true rfl) (Nat.le_of_ble_eq_true rfl) (Nat.le_of_ble_eq_true rfl) (pX1_everybody rfl ?_)
      rw [shl1m hn]
      refine r_icmp_gt 111 dX0_crowd_48 (by decide) (fun c_ => absurd c_ (nI_nlt (by omega) (by omega))) (fun _ => ?_)
      refine r_iload dX0_crowd_51 rfl ?_
      refine r_callS (as := [_]) okJ18_bitCount q1257 dX0_crowd_53 (Nat.le_of_ble_eq_true rfl) rfl (Nat.le_of_ble_eq_true rfl) (Nat.le_of_ble_eq_true rfl) (Nat.le_of_ble_eq_true rfl) (pJ18_bitCount ?_)
      refine r_iload_n dX0_crowd_56 rfl ?_
      refine r_icmp_ne 79 dX0_crowd_57 (by decide) (fun c_57 => ?_) (fun c_57 => ?_)
      · refine r_iconst (-1) dX0_crowd_79 (by decide) ?_
        refine r_istore dX0_crowd_80 (Nat.le_of_ble_eq_true rfl) ?_
        refine r_iload dX0_crowd_82 rfl ?_
        refine r_iload dX0_crowd_84 rfl ?_
        refine r_icmp_le 94 dX0_crowd_86 (by decide) (fun c_86 => ?_) (fun c_86 => ?_)
        · refine r_iload_n dX0_crowd_94 rfl ?_
          refine r_istore_n dX0_crowd_95 (Nat.le_of_ble_eq_true rfl) ?_
          refine r_iload dX0_crowd_96 rfl ?_
          refine r_iload dX0_crowd_98 rfl ?_
          refine r_mmax q1292 dX0_crowd_100 (Nat.le_of_ble_eq_true rfl) (Nat.le_of_ble_eq_true rfl) (Nat.le_of_ble_eq_true rfl) ?_
          refine r_istore dX0_crowd_103 (Nat.le_of_ble_eq_true rfl) ?_
          first | rw [mx_l c_86] | rw [mx_r c_86]
          refine r_iincV dX0_crowd_105 rfl (Nat.le_of_ble_eq_true rfl) (incN _) ?_
          refine r_goto 39 dX0_crowd_108 (by decide) ?_
          first | (have q2 := cr_ge (th := th) (kN := kN) (ow := ow) (lk := lk) (ag := ag) (q := q) (i0 := 0) hn k; exact absurd q2 c_86) | (rw [crF, if_neg (fun z => c_57 z.1)] at ih; exact ih _ _ _ _ _ _ _) | (rw [crF, if_pos ⟨c_57, Int32.not_le.mp c_86⟩] at ih; exact ih _ _ _ _ _ _ _) | (rw [crF, if_neg (fun z => Int32.not_le.mpr z.2 c_86)] at ih; exact ih _ _ _ _ _ _ _)
        · refine r_iload dX0_crowd_89 rfl ?_
          refine r_goto 95 dX0_crowd_91 (by decide) ?_
          refine r_istore_n dX0_crowd_95 (Nat.le_of_ble_eq_true rfl) ?_
          refine r_iload dX0_crowd_96 rfl ?_
          refine r_iload dX0_crowd_98 rfl ?_
          refine r_mmax q1292 dX0_crowd_100 (Nat.le_of_ble_eq_true rfl) (Nat.le_of_ble_eq_true rfl) (Nat.le_of_ble_eq_true rfl) ?_
          refine r_istore dX0_crowd_103 (Nat.le_of_ble_eq_true rfl) ?_
          first | rw [mx_l c_86] | rw [mx_r c_86]
          refine r_iincV dX0_crowd_105 rfl (Nat.le_of_ble_eq_true rfl) (incN _) ?_
          refine r_goto 39 dX0_crowd_108 (by decide) ?_
          first | (have q2 := cr_ge (th := th) (kN := kN) (ow := ow) (lk := lk) (ag := ag) (q := q) (i0 := 0) hn k; exact absurd q2 c_86) | (rw [crF, if_neg (fun z => c_57 z.1)] at ih; exact ih _ _ _ _ _ _ _) | (rw [crF, if_pos ⟨c_57, Int32.not_le.mp c_86⟩] at ih; exact ih _ _ _ _ _ _ _) | (rw [crF, if_neg (fun z => Int32.not_le.mpr z.2 c_86)] at ih; exact ih _ _ _ _ _ _ _)
      · refine r_aload_n dX0_crowd_60 rfl ?_
        refine r_get bX0 4 (by decide) q250 dX0_crowd_61 rfl rfl ?_
        refine r_aload_n dX0_crowd_64 rfl ?_
        refine r_get bX0 0 (by decide) q246 dX0_crowd_65 rfl rfl ?_
        refine r_iload dX0_crowd_68 rfl ?_
        refine r_callV (as := [_, _]) okX3_of bX3 rfl rfl q547 dX0_crowd_70 (Nat.le_of_ble_eq_true rfl) rfl (Nat.le_of_ble_eq_true rfl) (Nat.le_of_ble_eq_true rfl) (Nat.le_of_ble_eq_true rfl) (pX3_of_n hn hL hP (fun ef2 => ?_))
        refine r_callV (as := []) okX3_many bX3 rfl rfl q1243 dX0_crowd_73 (Nat.le_of_ble_eq_true rfl) rfl (Nat.le_of_ble_eq_true rfl) (Nat.le_of_ble_eq_true rfl) (Nat.le_of_ble_eq_true rfl) (pX3_many rfl ?_)
        rw [bc_bits hn]
        refine r_goto 80 dX0_crowd_76 (by decide) ?_
        refine r_istore dX0_crowd_80 (Nat.le_of_ble_eq_true rfl) ?_
        refine r_iload dX0_crowd_82 rfl ?_
        refine r_iload dX0_crowd_84 rfl ?_
        refine r_icmp_le 94 dX0_crowd_86 (by decide) (fun c_86 => ?_) (fun c_86 => ?_)
        · refine r_iload_n dX0_crowd_94 rfl ?_
          refine r_istore_n dX0_crowd_95 (Nat.le_of_ble_eq_true rfl) ?_
          refine r_iload dX0_crowd_96 rfl ?_
          refine r_iload dX0_crowd_98 rfl ?_
          refine r_mmax q1292 dX0_crowd_100 (Nat.le_of_ble_eq_true rfl) (Nat.le_of_ble_eq_true rfl) (Nat.le_of_ble_eq_true rfl) ?_
          refine r_istore dX0_crowd_103 (Nat.le_of_ble_eq_true rfl) ?_
          first | rw [mx_l c_86] | rw [mx_r c_86]
          refine r_iincV dX0_crowd_105 rfl (Nat.le_of_ble_eq_true rfl) (incN _) ?_
          refine r_goto 39 dX0_crowd_108 (by decide) ?_
          first | (have q2 := cr_ge (th := th) (kN := kN) (ow := ow) (lk := lk) (ag := ag) (q := q) (i0 := 0) hn k; exact absurd q2 c_86) | (rw [crF, if_neg (fun z => c_57 z.1)] at ih; exact ih _ _ _ _ _ _ _) | (rw [crF, if_pos ⟨c_57, Int32.not_le.mp c_86⟩] at ih; exact ih _ _ _ _ _ _ _) | (rw [crF, if_neg (fun z => Int32.not_le.mpr z.2 c_86)] at ih; exact ih _ _ _ _ _ _ _)
        · refine r_iload dX0_crowd_89 rfl ?_
          refine r_goto 95 dX0_crowd_91 (by decide) ?_
          refine r_istore_n dX0_crowd_95 (Nat.le_of_ble_eq_true rfl) ?_
          refine r_iload dX0_crowd_96 rfl ?_
          refine r_iload dX0_crowd_98 rfl ?_
          refine r_mmax q1292 dX0_crowd_100 (Nat.le_of_ble_eq_true rfl) (Nat.le_of_ble_eq_true rfl) (Nat.le_of_ble_eq_true rfl) ?_
          refine r_istore dX0_crowd_103 (Nat.le_of_ble_eq_true rfl) ?_
          first | rw [mx_l c_86] | rw [mx_r c_86]
          refine r_iincV dX0_crowd_105 rfl (Nat.le_of_ble_eq_true rfl) (incN _) ?_
          refine r_goto 39 dX0_crowd_108 (by decide) ?_
          first | (have q2 := cr_ge (th := th) (kN := kN) (ow := ow) (lk := lk) (ag := ag) (q := q) (i0 := 0) hn k; exact absurd q2 c_86) | (rw [crF, if_neg (fun z => c_57 z.1)] at ih; exact ih _ _ _ _ _ _ _) | (rw [crF, if_pos ⟨c_57, Int32.not_le.mp c_86⟩] at ih; exact ih _ _ _ _ _ _ _) | (rw [crF, if_neg (fun z => Int32.not_le.mpr z.2 c_86)] at ih; exact ih _ _ _ _ _ _ _)
  refine r_iload_n dX0_crowd_0 rfl ?_
  refine r_iconst 0 dX0_crowd_1 (by decide) ?_
  refine r_aload_n dX0_crowd_2 rfl ?_
  refine r_get bX0 0 (by decide) q246 dX0_crowd_3 rfl rfl ?_
  refine r_get bX1 7 (by decide) q179 dX0_crowd_6 rfl rfl ?_
  refine r_callS (as := [_, _, _]) okX0_isIn q378 dX0_crowd_9 (Nat.le_of_ble_eq_true rfl) rfl (Nat.le_of_ble_eq_true rfl) (Nat.le_of_ble_eq_true rfl) (Nat.le_of_ble_eq_true rfl) (pX0_isIn ?_)
  refine r_if_eq 24 dX0_crowd_12 (by decide) (fun c_12 => ?_) (fun c_12 => ?_)
  · refine r_aload_n dX0_crowd_24 rfl ?_
    refine r_bipush (-2) dX0_crowd_25 (by decide) ?_
    refine r_callV (as := [_]) okX0_no bX0 rfl rfl q381 dX0_crowd_27 (Nat.le_of_ble_eq_true rfl) rfl (Nat.le_of_ble_eq_true rfl) (Nat.le_of_ble_eq_true rfl) (Nat.le_of_ble_eq_true rfl) (pX0_no 2 (by decide) (by decide) ?_)
    exact r_iret dX0_crowd_30 rfl (Nat.le_of_ble_eq_true rfl) (Nat.le_of_ble_eq_true rfl) (hbad (by simp_all [b2i_0]))
  · refine r_iload_n dX0_crowd_15 rfl ?_
    refine r_iconst 0 dX0_crowd_16 (by decide) ?_
    refine r_iconst 1 dX0_crowd_17 (by decide) ?_
    refine r_callS (as := [_, _, _]) okX0_isIn q378 dX0_crowd_18 (Nat.le_of_ble_eq_true rfl) rfl (Nat.le_of_ble_eq_true rfl) (Nat.le_of_ble_eq_true rfl) (Nat.le_of_ble_eq_true rfl) (pX0_isIn ?_)
    refine r_if_ne 31 dX0_crowd_21 (by decide) (fun c_21 => ?_) (fun c_21 => ?_)
    · exact hgo (b2i_n.mp c_12) (b2i_n.mp c_21)
    · refine r_aload_n dX0_crowd_24 rfl ?_
      refine r_bipush (-2) dX0_crowd_25 (by decide) ?_
      refine r_callV (as := [_]) okX0_no bX0 rfl rfl q381 dX0_crowd_27 (Nat.le_of_ble_eq_true rfl) rfl (Nat.le_of_ble_eq_true rfl) (Nat.le_of_ble_eq_true rfl) (Nat.le_of_ble_eq_true rfl) (pX0_no 2 (by decide) (by decide) ?_)
      exact r_iret dX0_crowd_30 rfl (Nat.le_of_ble_eq_true rfl) (Nat.le_of_ble_eq_true rfl) (hbad (by simp_all [b2i_0]))
end XX
