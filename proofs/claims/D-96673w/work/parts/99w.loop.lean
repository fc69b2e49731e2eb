set_option maxRecDepth 100000
/-! the law's loop, given its cases (printed by gen/loop.py) -/
def pcL : List Nat := [252, 295, 368, 431, 465, 488, 521, 554, 587, 630, 689, 732, 755, 768, 781, 804, 837, 860, 893, 926, 959, 992, 1025, 1058, 1091, 1144, 1167, 1190, 1213, 1226, 1259, 1282, 1305, 1318, 1341, 1364, 1387, 1420, 1433, 1456, 1489, 1512, 1535, 1548, 1581, 1604, 1617, 1640, 1663, 1676, 1689]
/-- a case of the law is right -/
def CaseL (L : Nat) (xs : Nat → Int32) (pc : Nat) : Prop := ∀ (k i ce sl : Nat) (h : AHp), k ≤ 64 → i + 6 ≤ L → L < 1000 → ce ≤ 593672 → sl ≤ 7149314 → Can k h → GoL L xs k i ce sl → RchX (ScP L xs) JL ce sl pc [some (.ref 4), some (.ref 1), some (.ref 0), some (.int (nI i))] [] h
theorem Can.up {k : Nat} {h : AHp} (hC : Can k h) : Can (k + 1) h := by
  obtain ⟨a1, a2, a3, a4, a5, a6, a7, a8, a9, a10, a11, a12, a13, a14, a15, a16, a17, a18, a19, a20, a21, a22, a23, a24, a25, a26, a27, a28, a29, a30, a31, a32, a33, a34, a35, a36, a37, a38, a39, a40, a41, a42, a43, a44, a45, a46, a47, a48, a49, a50, a51, a52, a53, a54, a55, a56, a57, a58, a59, a60, a61, a62, e, c⟩ := hC
  exact ⟨a1, a2, a3, a4, a5, a6, a7, a8, a9, a10, a11, a12, a13, a14, a15, a16, a17, a18, a19, a20, a21, a22, a23, a24, a25, a26, a27, a28, a29, a30, a31, a32, a33, a34, a35, a36, a37, a38, a39, a40, a41, a42, a43, a44, a45, a46, a47, a48, a49, a50, a51, a52, a53, a54, a55, a56, a57, a58, a59, a60, a61, a62, e, c.1, Nat.le_succ_of_le c.2.1, c.2.2⟩
theorem and63 (x : Int32) : ∃ q, q < 64 ∧ x &&& 63 = nI q := by
  refine ⟨(x.toBitVec &&& 63#32).toNat, ?_, ?_⟩
  · rw [BitVec.toNat_and]
    exact Nat.lt_of_le_of_lt Nat.and_le_right (by decide)
  · refine Int32.toBitVec_inj.mp ?_
    show x.toBitVec &&& (63 : Int32).toBitVec = BitVec.ofNat 32 _
    rw [BitVec.ofNat_toNat, BitVec.setWidth_eq]
    rfl
theorem law_step {L k i ce sl : Nat} {xs : Nat → Int32} {h : AHp} (hall : ∀ (q pc : Nat), pcL[q]? = some pc → CaseL L xs pc) (hk : k ≤ 64) (hi : i + 6 ≤ L) (hLL : L < 1000) (hce : ce ≤ 593672) (hsl : sl ≤ 7149314) (hC : Can k h) (hG : GoL L xs k i ce sl) : RchX (ScP L xs) JL ce sl 27 [some (.ref 4), some (.ref 1), some (.ref 0), some (.int (nI i))] [] h := by
  refine x_aload_n dL_law_27 rfl ?_
  refine x_iload_n dL_law_28 rfl ?_
  refine x_sldE (j := i) dL_law_29 rfl (by omega) hLL ?_
  refine x_bipush 63 dL_law_30 (by decide) ?_
  refine x_iand dL_law_32 ?_
  obtain ⟨q, hq, eq⟩ := and63 (xs i)
  rw [eq]
  have hgo : ∀ pc, pcL[q]? = some pc → RchX (ScP L xs) JL ce sl pc [some (.ref 4), some (.ref 1), some (.ref 0), some (.int (nI i))] [] h := fun pc e => hall q pc e k i ce sl h hk hi hLL hce hsl hC hG
  rcases (show q = 0 ∨ q = 1 ∨ q = 2 ∨ q = 3 ∨ q = 4 ∨ q = 5 ∨ q = 6 ∨ q = 7 ∨ q = 8 ∨ q = 9 ∨ q = 10 ∨ q = 11 ∨ q = 12 ∨ q = 13 ∨ q = 14 ∨ q = 15 ∨ q = 16 ∨ q = 17 ∨ q = 18 ∨ q = 19 ∨ q = 20 ∨ q = 21 ∨ q = 22 ∨ q = 23 ∨ q = 24 ∨ q = 25 ∨ q = 26 ∨ q = 27 ∨ q = 28 ∨ q = 29 ∨ q = 30 ∨ q = 31 ∨ q = 32 ∨ q = 33 ∨ q = 34 ∨ q = 35 ∨ q = 36 ∨ q = 37 ∨ q = 38 ∨ q = 39 ∨ q = 40 ∨ q = 41 ∨ q = 42 ∨ q = 43 ∨ q = 44 ∨ q = 45 ∨ q = 46 ∨ q = 47 ∨ q = 48 ∨ q = 49 ∨ q = 50 ∨ 50 < q by omega) with rfl | rfl | rfl | rfl | rfl | rfl | rfl | rfl | rfl | rfl | rfl | rfl | rfl | rfl | rfl | rfl | rfl | rfl | rfl | rfl | rfl | rfl | rfl | rfl | rfl | rfl | rfl | rfl | rfl | rfl | rfl | rfl | rfl | rfl | rfl | rfl | rfl | rfl | rfl | rfl | rfl | rfl | rfl | rfl | rfl | rfl | rfl | rfl | rfl | rfl | rfl | hq2
  · exact x_tableIn 252 dL_law_33 (by decide) (by decide) rfl (by decide) (hgo 252 rfl)
  · exact x_tableIn 295 dL_law_33 (by decide) (by decide) rfl (by decide) (hgo 295 rfl)
  · exact x_tableIn 368 dL_law_33 (by decide) (by decide) rfl (by decide) (hgo 368 rfl)
  · exact x_tableIn 431 dL_law_33 (by decide) (by decide) rfl (by decide) (hgo 431 rfl)
  · exact x_tableIn 465 dL_law_33 (by decide) (by decide) rfl (by decide) (hgo 465 rfl)
  · exact x_tableIn 488 dL_law_33 (by decide) (by decide) rfl (by decide) (hgo 488 rfl)
  · exact x_tableIn 521 dL_law_33 (by decide) (by decide) rfl (by decide) (hgo 521 rfl)
  · exact x_tableIn 554 dL_law_33 (by decide) (by decide) rfl (by decide) (hgo 554 rfl)
  · exact x_tableIn 587 dL_law_33 (by decide) (by decide) rfl (by decide) (hgo 587 rfl)
  · exact x_tableIn 630 dL_law_33 (by decide) (by decide) rfl (by decide) (hgo 630 rfl)
  · exact x_tableIn 689 dL_law_33 (by decide) (by decide) rfl (by decide) (hgo 689 rfl)
  · exact x_tableIn 732 dL_law_33 (by decide) (by decide) rfl (by decide) (hgo 732 rfl)
  · exact x_tableIn 755 dL_law_33 (by decide) (by decide) rfl (by decide) (hgo 755 rfl)
  · exact x_tableIn 768 dL_law_33 (by decide) (by decide) rfl (by decide) (hgo 768 rfl)
  · exact x_tableIn 781 dL_law_33 (by decide) (by decide) rfl (by decide) (hgo 781 rfl)
  · exact x_tableIn 804 dL_law_33 (by decide) (by decide) rfl (by decide) (hgo 804 rfl)
  · exact x_tableIn 837 dL_law_33 (by decide) (by decide) rfl (by decide) (hgo 837 rfl)
  · exact x_tableIn 860 dL_law_33 (by decide) (by decide) rfl (by decide) (hgo 860 rfl)
  · exact x_tableIn 893 dL_law_33 (by decide) (by decide) rfl (by decide) (hgo 893 rfl)
  · exact x_tableIn 926 dL_law_33 (by decide) (by decide) rfl (by decide) (hgo 926 rfl)
  · exact x_tableIn 959 dL_law_33 (by decide) (by decide) rfl (by decide) (hgo 959 rfl)
  · exact x_tableIn 992 dL_law_33 (by decide) (by decide) rfl (by decide) (hgo 992 rfl)
  · exact x_tableIn 1025 dL_law_33 (by decide) (by decide) rfl (by decide) (hgo 1025 rfl)
  · exact x_tableIn 1058 dL_law_33 (by decide) (by decide) rfl (by decide) (hgo 1058 rfl)
  · exact x_tableIn 1091 dL_law_33 (by decide) (by decide) rfl (by decide) (hgo 1091 rfl)
  · exact x_tableIn 1144 dL_law_33 (by decide) (by decide) rfl (by decide) (hgo 1144 rfl)
  · exact x_tableIn 1167 dL_law_33 (by decide) (by decide) rfl (by decide) (hgo 1167 rfl)
  · exact x_tableIn 1190 dL_law_33 (by decide) (by decide) rfl (by decide) (hgo 1190 rfl)
  · exact x_tableIn 1213 dL_law_33 (by decide) (by decide) rfl (by decide) (hgo 1213 rfl)
  · exact x_tableIn 1226 dL_law_33 (by decide) (by decide) rfl (by decide) (hgo 1226 rfl)
  · exact x_tableIn 1259 dL_law_33 (by decide) (by decide) rfl (by decide) (hgo 1259 rfl)
  · exact x_tableIn 1282 dL_law_33 (by decide) (by decide) rfl (by decide) (hgo 1282 rfl)
  · exact x_tableIn 1305 dL_law_33 (by decide) (by decide) rfl (by decide) (hgo 1305 rfl)
  · exact x_tableIn 1318 dL_law_33 (by decide) (by decide) rfl (by decide) (hgo 1318 rfl)
  · exact x_tableIn 1341 dL_law_33 (by decide) (by decide) rfl (by decide) (hgo 1341 rfl)
  · exact x_tableIn 1364 dL_law_33 (by decide) (by decide) rfl (by decide) (hgo 1364 rfl)
  · exact x_tableIn 1387 dL_law_33 (by decide) (by decide) rfl (by decide) (hgo 1387 rfl)
  · exact x_tableIn 1420 dL_law_33 (by decide) (by decide) rfl (by decide) (hgo 1420 rfl)
  · exact x_tableIn 1433 dL_law_33 (by decide) (by decide) rfl (by decide) (hgo 1433 rfl)
  · exact x_tableIn 1456 dL_law_33 (by decide) (by decide) rfl (by decide) (hgo 1456 rfl)
  · exact x_tableIn 1489 dL_law_33 (by decide) (by decide) rfl (by decide) (hgo 1489 rfl)
  · exact x_tableIn 1512 dL_law_33 (by decide) (by decide) rfl (by decide) (hgo 1512 rfl)
  · exact x_tableIn 1535 dL_law_33 (by decide) (by decide) rfl (by decide) (hgo 1535 rfl)
  · exact x_tableIn 1548 dL_law_33 (by decide) (by decide) rfl (by decide) (hgo 1548 rfl)
  · exact x_tableIn 1581 dL_law_33 (by decide) (by decide) rfl (by decide) (hgo 1581 rfl)
  · exact x_tableIn 1604 dL_law_33 (by decide) (by decide) rfl (by decide) (hgo 1604 rfl)
  · exact x_tableIn 1617 dL_law_33 (by decide) (by decide) rfl (by decide) (hgo 1617 rfl)
  · exact x_tableIn 1640 dL_law_33 (by decide) (by decide) rfl (by decide) (hgo 1640 rfl)
  · exact x_tableIn 1663 dL_law_33 (by decide) (by decide) rfl (by decide) (hgo 1663 rfl)
  · exact x_tableIn 1676 dL_law_33 (by decide) (by decide) rfl (by decide) (hgo 1676 rfl)
  · exact x_tableIn 1689 dL_law_33 (by decide) (by decide) rfl (by decide) (hgo 1689 rfl)
  · refine x_tableOut 1712 dL_law_33 (Or.inr ?_) (by decide) (hG _ _ _ hC.up (by omega) (by omega))
    rw [nI_toInt (by omega)]
    omega
theorem law_loop {L : Nat} {xs : Nat → Int32} (hL : L ≤ 384) (hall : ∀ (q pc : Nat), pcL[q]? = some pc → CaseL L xs pc) : ∀ (r k ce sl : Nat) (h : AHp), L < 6 * (k + r) + 6 → k ≤ 64 → ce ≤ 65 + 9400 * k → sl ≤ 1700 + 113000 * k → Can k h → RchX (ScP L xs) JL ce sl 18 [some (.ref 4), some (.ref 1), some (.ref 0), some (.int (nI (6 * k)))] [] h := by
  have hex : ∀ (k ce sl : Nat) (h : AHp), L < 6 * k + 6 → k ≤ 64 → ce ≤ 65 + 9400 * k → sl ≤ 1700 + 113000 * k → RchX (ScP L xs) JL ce sl 18 [some (.ref 4), some (.ref 1), some (.ref 0), some (.int (nI (6 * k)))] [] h := by
    intro k ce sl h h1 h2 h3 h4
    have e1 : (nI L - 6).toInt = (L : Int) - 6 := pk_sub_toInt (a := L) (b := 6) (by omega) (by omega)
    have e2 : nI L - 6 < nI (6 * k) := by
      rw [Int32.lt_iff_toInt_lt, e1, nI_toInt (by omega)]
      omega
    refine x_iload_n dL_law_18 rfl ?_
    refine x_aload_n dL_law_19 rfl ?_
    refine x_slen dL_law_20 ?_
    refine x_bipush 6 dL_law_21 (by decide) ?_
    refine x_isub dL_law_23 ?_
    refine x_icmp_gt 1718 dL_law_24 (by decide) (fun _ => ?_) (fun c_ => absurd (e2) c_)
    refine x_iconst 1 dL_law_1718 (by decide) ?_
    exact x_zret (ty := .boolean) dL_law_1719 rfl rfl (by show _ ≤ 603072; omega) (by show _ ≤ 7262314; omega) rfl
  intro r
  induction r with
  | zero => intro k ce sl h h1 h2 h3 h4 _; exact hex k ce sl h h1 h2 h3 h4
  | succ r ih =>
    intro k ce sl h h1 h2 h3 h4 hC
    by_cases g : 6 * k + 6 ≤ L
    · have e1 : (nI L - 6).toInt = (L : Int) - 6 := pk_sub_toInt (a := L) (b := 6) (by omega) (by omega)
      have e2 : ¬ nI L - 6 < nI (6 * k) := by
        rw [Int32.lt_iff_toInt_lt, e1, nI_toInt (by omega)]
        omega
      refine x_iload_n dL_law_18 rfl ?_
      refine x_aload_n dL_law_19 rfl ?_
      refine x_slen dL_law_20 ?_
      refine x_bipush 6 dL_law_21 (by decide) ?_
      refine x_isub dL_law_23 ?_
      refine x_icmp_gt 1718 dL_law_24 (by decide) (fun c_ => absurd c_ (e2)) (fun _ => ?_)
      refine law_step hall h2 g (by omega) (by omega) (by omega) hC (fun ce' sl' h' hC' c1 c2 => ?_)
      have d1 : L < 6 * (k + 1 + r) + 6 := by omega
      have d2 : k + 1 ≤ 64 := by omega
      have d3 : ce' ≤ 65 + 9400 * (k + 1) := by omega
      have d4 : sl' ≤ 1700 + 113000 * (k + 1) := Nat.le_trans c2 (by rw [Nat.mul_add, Nat.mul_one, ← Nat.add_assoc]; exact Nat.add_le_add_right h4 _)
      have d5 := ih (k + 1) ce' sl' h' d1 d2 d3 d4 hC'
      rw [show 6 * (k + 1) = 6 * k + 6 by omega] at d5
      refine x_iincV dL_law_1712 rfl (Nat.le_of_ble_eq_true rfl) (nI_add (6 * k) 6) ?_
      refine x_goto 18 dL_law_1715 (by decide) ?_
      exact d5
    · exact hex k ce sl h (by omega) h2 h3 h4
