set_option maxRecDepth 100000
/-! the component: lookers are made -/
theorem aGet_push {h : AHp} {c : AC} : aGet (aPush h c) (aNew h) = some c := by
  unfold aGet aPush aNew
  rw [show (8 * h.2.2.2.length + 3) % 8 = 3 by omega, show (8 * h.2.2.2.length + 3) / 8 = h.2.2.2.length by omega]
  simp
theorem aSet_push {h : AHp} {c d : AC} : aSet (aPush h c) (aNew h) d = aPush h d := by
  unfold aSet aPush aNew
  rw [show (8 * h.2.2.2.length + 3) % 8 = 3 by omega, show (8 * h.2.2.2.length + 3) / 8 = h.2.2.2.length by omega]
  simp
theorem pX7_init {h : AHp} {c w : Nat} {nu x y v : Int32} {Q : Option Value → AHp → Prop} (hc : c < 6) (hw : aGet h w = some (.inr (7 + c, [.int x, .int y]))) (hQ : Q none (aSet h w (.inr (7 + c, [.int nu, .int v])))) : AMet mX7_init 1 0 0 [.ref w, .int nu, .int v] h Q := by
  refine AMet.ofRch rfl rfl (Nat.le_of_ble_eq_true rfl) ?_
  rcases (show c = 0 ∨ c = 1 ∨ c = 2 ∨ c = 3 ∨ c = 4 ∨ c = 5 by omega) with rfl | rfl | rfl | rfl | rfl | rfl
  · refine r_aload_n dX7_init_0 rfl ?_
    refine r_objInit q672 dX7_init_1 (Nat.le_of_ble_eq_true rfl) ?_
    refine r_aload_n dX7_init_4 rfl ?_
    refine r_iload_n dX7_init_5 rfl ?_
    refine r_putF bX7 0 (by decide) rfl rfl rfl q673 dX7_init_6 rfl rfl hw (Nat.le_of_ble_eq_true rfl) ?_
    refine r_aload_n dX7_init_9 rfl ?_
    refine r_iload_n dX7_init_10 rfl ?_
    refine r_putF bX7 1 (by decide) rfl rfl rfl q675 dX7_init_11 rfl rfl (aGet_same hw) (Nat.le_of_ble_eq_true rfl) ?_
    exact r_vret dX7_init_14 rfl (Nat.le_of_ble_eq_true rfl) (Nat.le_of_ble_eq_true rfl) (by rw [aSet_2]; exact hQ)
  · refine r_aload_n dX7_init_0 rfl ?_
    refine r_objInit q672 dX7_init_1 (Nat.le_of_ble_eq_true rfl) ?_
    refine r_aload_n dX7_init_4 rfl ?_
    refine r_iload_n dX7_init_5 rfl ?_
    refine r_putF bX8 0 (by decide) rfl rfl rfl q673 dX7_init_6 rfl rfl hw (Nat.le_of_ble_eq_true rfl) ?_
    refine r_aload_n dX7_init_9 rfl ?_
    refine r_iload_n dX7_init_10 rfl ?_
    refine r_putF bX8 1 (by decide) rfl rfl rfl q675 dX7_init_11 rfl rfl (aGet_same hw) (Nat.le_of_ble_eq_true rfl) ?_
    exact r_vret dX7_init_14 rfl (Nat.le_of_ble_eq_true rfl) (Nat.le_of_ble_eq_true rfl) (by rw [aSet_2]; exact hQ)
  · refine r_aload_n dX7_init_0 rfl ?_
    refine r_objInit q672 dX7_init_1 (Nat.le_of_ble_eq_true rfl) ?_
    refine r_aload_n dX7_init_4 rfl ?_
    refine r_iload_n dX7_init_5 rfl ?_
    refine r_putF bX9 0 (by decide) rfl rfl rfl q673 dX7_init_6 rfl rfl hw (Nat.le_of_ble_eq_true rfl) ?_
    refine r_aload_n dX7_init_9 rfl ?_
    refine r_iload_n dX7_init_10 rfl ?_
    refine r_putF bX9 1 (by decide) rfl rfl rfl q675 dX7_init_11 rfl rfl (aGet_same hw) (Nat.le_of_ble_eq_true rfl) ?_
    exact r_vret dX7_init_14 rfl (Nat.le_of_ble_eq_true rfl) (Nat.le_of_ble_eq_true rfl) (by rw [aSet_2]; exact hQ)
  · refine r_aload_n dX7_init_0 rfl ?_
    refine r_objInit q672 dX7_init_1 (Nat.le_of_ble_eq_true rfl) ?_
    refine r_aload_n dX7_init_4 rfl ?_
    refine r_iload_n dX7_init_5 rfl ?_
    refine r_putF bX10 0 (by decide) rfl rfl rfl q673 dX7_init_6 rfl rfl hw (Nat.le_of_ble_eq_true rfl) ?_
    refine r_aload_n dX7_init_9 rfl ?_
    refine r_iload_n dX7_init_10 rfl ?_
    refine r_putF bX10 1 (by decide) rfl rfl rfl q675 dX7_init_11 rfl rfl (aGet_same hw) (Nat.le_of_ble_eq_true rfl) ?_
    exact r_vret dX7_init_14 rfl (Nat.le_of_ble_eq_true rfl) (Nat.le_of_ble_eq_true rfl) (by rw [aSet_2]; exact hQ)
  · refine r_aload_n dX7_init_0 rfl ?_
    refine r_objInit q672 dX7_init_1 (Nat.le_of_ble_eq_true rfl) ?_
    refine r_aload_n dX7_init_4 rfl ?_
    refine r_iload_n dX7_init_5 rfl ?_
    refine r_putF bX11 0 (by decide) rfl rfl rfl q673 dX7_init_6 rfl rfl hw (Nat.le_of_ble_eq_true rfl) ?_
    refine r_aload_n dX7_init_9 rfl ?_
    refine r_iload_n dX7_init_10 rfl ?_
    refine r_putF bX11 1 (by decide) rfl rfl rfl q675 dX7_init_11 rfl rfl (aGet_same hw) (Nat.le_of_ble_eq_true rfl) ?_
    exact r_vret dX7_init_14 rfl (Nat.le_of_ble_eq_true rfl) (Nat.le_of_ble_eq_true rfl) (by rw [aSet_2]; exact hQ)
  · refine r_aload_n dX7_init_0 rfl ?_
    refine r_objInit q672 dX7_init_1 (Nat.le_of_ble_eq_true rfl) ?_
    refine r_aload_n dX7_init_4 rfl ?_
    refine r_iload_n dX7_init_5 rfl ?_
    refine r_putF bX12 0 (by decide) rfl rfl rfl q673 dX7_init_6 rfl rfl hw (Nat.le_of_ble_eq_true rfl) ?_
    refine r_aload_n dX7_init_9 rfl ?_
    refine r_iload_n dX7_init_10 rfl ?_
    refine r_putF bX12 1 (by decide) rfl rfl rfl q675 dX7_init_11 rfl rfl (aGet_same hw) (Nat.le_of_ble_eq_true rfl) ?_
    exact r_vret dX7_init_14 rfl (Nat.le_of_ble_eq_true rfl) (Nat.le_of_ble_eq_true rfl) (by rw [aSet_2]; exact hQ)
theorem pX8_init {h : AHp} {c w : Nat} {nu x y v : Int32} {Q : Option Value → AHp → Prop} (hc : c < 6) (hw : aGet h w = some (.inr (7 + c, [.int x, .int y]))) (hQ : Q none (aSet h w (.inr (7 + c, [.int nu, .int v])))) : AMet mX8_init 2 0 0 [.ref w, .int nu, .int v] h Q := by
  refine AMet.ofRch rfl rfl (Nat.le_of_ble_eq_true rfl) ?_
  refine r_aload_n dX8_init_0 rfl ?_
  refine r_iload_n dX8_init_1 rfl ?_
  refine r_iload_n dX8_init_2 rfl ?_
  refine r_callI (as := [_, _]) okX7_init q690 dX8_init_3 (Nat.le_of_ble_eq_true rfl) rfl (Nat.le_of_ble_eq_true rfl) (Nat.le_of_ble_eq_true rfl) (Nat.le_of_ble_eq_true rfl) (pX7_init hc hw ?_)
  exact r_vret dX8_init_6 rfl (Nat.le_of_ble_eq_true rfl) (Nat.le_of_ble_eq_true rfl) (hQ)
theorem pX9_init {h : AHp} {c w : Nat} {nu x y v : Int32} {Q : Option Value → AHp → Prop} (hc : c < 6) (hw : aGet h w = some (.inr (7 + c, [.int x, .int y]))) (hQ : Q none (aSet h w (.inr (7 + c, [.int nu, .int v])))) : AMet mX9_init 2 0 0 [.ref w, .int nu, .int v] h Q := by
  refine AMet.ofRch rfl rfl (Nat.le_of_ble_eq_true rfl) ?_
  refine r_aload_n dX9_init_0 rfl ?_
  refine r_iload_n dX9_init_1 rfl ?_
  refine r_iload_n dX9_init_2 rfl ?_
  refine r_callI (as := [_, _]) okX7_init q697 dX9_init_3 (Nat.le_of_ble_eq_true rfl) rfl (Nat.le_of_ble_eq_true rfl) (Nat.le_of_ble_eq_true rfl) (Nat.le_of_ble_eq_true rfl) (pX7_init hc hw ?_)
  exact r_vret dX9_init_6 rfl (Nat.le_of_ble_eq_true rfl) (Nat.le_of_ble_eq_true rfl) (hQ)
theorem pX10_init {h : AHp} {c w : Nat} {nu x y v : Int32} {Q : Option Value → AHp → Prop} (hc : c < 6) (hw : aGet h w = some (.inr (7 + c, [.int x, .int y]))) (hQ : Q none (aSet h w (.inr (7 + c, [.int nu, .int v])))) : AMet mX10_init 3 0 0 [.ref w, .int nu, .int v] h Q := by
  refine AMet.ofRch rfl rfl (Nat.le_of_ble_eq_true rfl) ?_
  refine r_aload_n dX10_init_0 rfl ?_
  refine r_iload_n dX10_init_1 rfl ?_
  refine r_iload_n dX10_init_2 rfl ?_
  refine r_callI (as := [_, _]) okX8_init q705 dX10_init_3 (Nat.le_of_ble_eq_true rfl) rfl (Nat.le_of_ble_eq_true rfl) (Nat.le_of_ble_eq_true rfl) (Nat.le_of_ble_eq_true rfl) (pX8_init hc hw ?_)
  exact r_vret dX10_init_6 rfl (Nat.le_of_ble_eq_true rfl) (Nat.le_of_ble_eq_true rfl) (hQ)
theorem pX11_init {h : AHp} {c w : Nat} {nu x y v : Int32} {Q : Option Value → AHp → Prop} (hc : c < 6) (hw : aGet h w = some (.inr (7 + c, [.int x, .int y]))) (hQ : Q none (aSet h w (.inr (7 + c, [.int nu, .int v])))) : AMet mX11_init 3 0 0 [.ref w, .int nu, .int v] h Q := by
  refine AMet.ofRch rfl rfl (Nat.le_of_ble_eq_true rfl) ?_
  refine r_aload_n dX11_init_0 rfl ?_
  refine r_iload_n dX11_init_1 rfl ?_
  refine r_iload_n dX11_init_2 rfl ?_
  refine r_callI (as := [_, _]) okX9_init q712 dX11_init_3 (Nat.le_of_ble_eq_true rfl) rfl (Nat.le_of_ble_eq_true rfl) (Nat.le_of_ble_eq_true rfl) (Nat.le_of_ble_eq_true rfl) (pX9_init hc hw ?_)
  exact r_vret dX11_init_6 rfl (Nat.le_of_ble_eq_true rfl) (Nat.le_of_ble_eq_true rfl) (hQ)
theorem pX12_init {h : AHp} {c w : Nat} {nu x y v : Int32} {Q : Option Value → AHp → Prop} (hc : c < 6) (hw : aGet h w = some (.inr (7 + c, [.int x, .int y]))) (hQ : Q none (aSet h w (.inr (7 + c, [.int nu, .int v])))) : AMet mX12_init 2 0 0 [.ref w, .int nu, .int v] h Q := by
  refine AMet.ofRch rfl rfl (Nat.le_of_ble_eq_true rfl) ?_
  refine r_aload_n dX12_init_0 rfl ?_
  refine r_iload_n dX12_init_1 rfl ?_
  refine r_iload_n dX12_init_2 rfl ?_
  refine r_callI (as := [_, _]) okX7_init q719 dX12_init_3 (Nat.le_of_ble_eq_true rfl) rfl (Nat.le_of_ble_eq_true rfl) (Nat.le_of_ble_eq_true rfl) (Nat.le_of_ble_eq_true rfl) (pX7_init hc hw ?_)
  exact r_vret dX12_init_6 rfl (Nat.le_of_ble_eq_true rfl) (Nat.le_of_ble_eq_true rfl) (hQ)
theorem pX0_made {h : AHp} {k : Nat} {nu v : Int32} {Q : Option Value → AHp → Prop} (hk : k < 6) (hQ : Q (some (.ref (aNew h))) (aPush h (.inr (7 + k, [.int nu, .int v])))) : AMet mX0_made 4 1 2 [.int (nI k), .int nu, .int v] h Q := by
  refine AMet.ofRch rfl rfl (Nat.le_of_ble_eq_true rfl) ?_
  rcases (show k = 0 ∨ k = 1 ∨ k = 2 ∨ k = 3 ∨ k = 4 ∨ k = 5 by omega) with rfl | rfl | rfl | rfl | rfl | rfl
  · refine r_iload_n dX0_made_0 rfl ?_
    refine r_tableIn 36 dX0_made_1 (by decide) (by decide) rfl (by decide) ?_
    refine r_new bX7 [.int 0, .int 0] (by decide) (fun _ => rfl) q419 q668 q102 dX0_made_36 (Nat.le_of_ble_eq_true rfl) (Nat.le_of_ble_eq_true rfl) ?_
    refine r_dup dX0_made_39 rfl ?_
    refine r_iload_n dX0_made_40 rfl ?_
    refine r_iload_n dX0_made_41 rfl ?_
    refine r_callI (as := [_, _]) okX7_init q669 dX0_made_42 (Nat.le_of_ble_eq_true rfl) rfl (Nat.le_of_ble_eq_true rfl) (Nat.le_of_ble_eq_true rfl) (Nat.le_of_ble_eq_true rfl) (pX7_init (c := 0) (by decide) aGet_push ?_)
    rw [aSet_push]
    exact r_aret dX0_made_45 rfl (by first | exact Or.inl ⟨_, rfl⟩ | exact Or.inr ⟨_, rfl⟩) (Nat.le_of_ble_eq_true rfl) (Nat.le_of_ble_eq_true rfl) (hQ)
  · refine r_iload_n dX0_made_0 rfl ?_
    refine r_tableIn 46 dX0_made_1 (by decide) (by decide) rfl (by decide) ?_
    refine r_new bX8 [.int 0, .int 0] (by decide) (fun _ => rfl) q542 q686 q103 dX0_made_46 (Nat.le_of_ble_eq_true rfl) (Nat.le_of_ble_eq_true rfl) ?_
    refine r_dup dX0_made_49 rfl ?_
    refine r_iload_n dX0_made_50 rfl ?_
    refine r_iload_n dX0_made_51 rfl ?_
    refine r_callI (as := [_, _]) okX8_init q687 dX0_made_52 (Nat.le_of_ble_eq_true rfl) rfl (Nat.le_of_ble_eq_true rfl) (Nat.le_of_ble_eq_true rfl) (Nat.le_of_ble_eq_true rfl) (pX8_init (c := 1) (by decide) aGet_push ?_)
    rw [aSet_push]
    exact r_aret dX0_made_55 rfl (by first | exact Or.inl ⟨_, rfl⟩ | exact Or.inr ⟨_, rfl⟩) (Nat.le_of_ble_eq_true rfl) (Nat.le_of_ble_eq_true rfl) (hQ)
  · refine r_iload_n dX0_made_0 rfl ?_
    refine r_tableIn 56 dX0_made_1 (by decide) (by decide) rfl (by decide) ?_
    refine r_new bX9 [.int 0, .int 0] (by decide) (fun _ => rfl) q643 q693 q104 dX0_made_56 (Nat.le_of_ble_eq_true rfl) (Nat.le_of_ble_eq_true rfl) ?_
    refine r_dup dX0_made_59 rfl ?_
    refine r_iload_n dX0_made_60 rfl ?_
    refine r_iload_n dX0_made_61 rfl ?_
    refine r_callI (as := [_, _]) okX9_init q694 dX0_made_62 (Nat.le_of_ble_eq_true rfl) rfl (Nat.le_of_ble_eq_true rfl) (Nat.le_of_ble_eq_true rfl) (Nat.le_of_ble_eq_true rfl) (pX9_init (c := 2) (by decide) aGet_push ?_)
    rw [aSet_push]
    exact r_aret dX0_made_65 rfl (by first | exact Or.inl ⟨_, rfl⟩ | exact Or.inr ⟨_, rfl⟩) (Nat.le_of_ble_eq_true rfl) (Nat.le_of_ble_eq_true rfl) (hQ)
  · refine r_iload_n dX0_made_0 rfl ?_
    refine r_tableIn 66 dX0_made_1 (by decide) (by decide) rfl (by decide) ?_
    refine r_new bX10 [.int 0, .int 0] (by decide) (fun _ => rfl) q644 q701 q105 dX0_made_66 (Nat.le_of_ble_eq_true rfl) (Nat.le_of_ble_eq_true rfl) ?_
    refine r_dup dX0_made_69 rfl ?_
    refine r_iload_n dX0_made_70 rfl ?_
    refine r_iload_n dX0_made_71 rfl ?_
    refine r_callI (as := [_, _]) okX10_init q702 dX0_made_72 (Nat.le_of_ble_eq_true rfl) rfl (Nat.le_of_ble_eq_true rfl) (Nat.le_of_ble_eq_true rfl) (Nat.le_of_ble_eq_true rfl) (pX10_init (c := 3) (by decide) aGet_push ?_)
    rw [aSet_push]
    exact r_aret dX0_made_75 rfl (by first | exact Or.inl ⟨_, rfl⟩ | exact Or.inr ⟨_, rfl⟩) (Nat.le_of_ble_eq_true rfl) (Nat.le_of_ble_eq_true rfl) (hQ)
  · refine r_iload_n dX0_made_0 rfl ?_
    refine r_tableIn 76 dX0_made_1 (by decide) (by decide) rfl (by decide) ?_
    refine r_new bX11 [.int 0, .int 0] (by decide) (fun _ => rfl) q645 q708 q106 dX0_made_76 (Nat.le_of_ble_eq_true rfl) (Nat.le_of_ble_eq_true rfl) ?_
    refine r_dup dX0_made_79 rfl ?_
    refine r_iload_n dX0_made_80 rfl ?_
    refine r_iload_n dX0_made_81 rfl ?_
    refine r_callI (as := [_, _]) okX11_init q709 dX0_made_82 (Nat.le_of_ble_eq_true rfl) rfl (Nat.le_of_ble_eq_true rfl) (Nat.le_of_ble_eq_true rfl) (Nat.le_of_ble_eq_true rfl) (pX11_init (c := 4) (by decide) aGet_push ?_)
    rw [aSet_push]
    exact r_aret dX0_made_85 rfl (by first | exact Or.inl ⟨_, rfl⟩ | exact Or.inr ⟨_, rfl⟩) (Nat.le_of_ble_eq_true rfl) (Nat.le_of_ble_eq_true rfl) (hQ)
  · refine r_iload_n dX0_made_0 rfl ?_
    refine r_tableOut 86 dX0_made_1 (by decide) (by decide) ?_
    refine r_new bX12 [.int 0, .int 0] (by decide) (fun _ => rfl) q646 q715 q107 dX0_made_86 (Nat.le_of_ble_eq_true rfl) (Nat.le_of_ble_eq_true rfl) ?_
    refine r_dup dX0_made_89 rfl ?_
    refine r_iload_n dX0_made_90 rfl ?_
    refine r_iload_n dX0_made_91 rfl ?_
    refine r_callI (as := [_, _]) okX12_init q716 dX0_made_92 (Nat.le_of_ble_eq_true rfl) rfl (Nat.le_of_ble_eq_true rfl) (Nat.le_of_ble_eq_true rfl) (Nat.le_of_ble_eq_true rfl) (pX12_init (c := 5) (by decide) aGet_push ?_)
    rw [aSet_push]
    exact r_aret dX0_made_95 rfl (by first | exact Or.inl ⟨_, rfl⟩ | exact Or.inr ⟨_, rfl⟩) (Nat.le_of_ble_eq_true rfl) (Nat.le_of_ble_eq_true rfl) (hQ)
theorem pJ0_rangeCheck {h : AHp} {n a b : Nat} {Q : Option Value → AHp → Prop} (h1 : a ≤ b) (h2 : b ≤ n) (hn : n < 1000) (hQ : Q none h) : AMet mJ0_rangeCheck 1 0 0 [.int (nI n), .int (nI a), .int (nI b)] h Q := by
  refine AMet.ofRch rfl rfl (Nat.le_of_ble_eq_true rfl) ?_
  refine r_iload_n dJ0_rangeCheck_0 rfl ?_
  refine r_iload_n dJ0_rangeCheck_1 rfl ?_
  refine r_icmp_le 46 dJ0_rangeCheck_2 (by decide) (fun _ => ?_) (fun c_ => absurd (nI_le h1 (by omega)) c_)
  refine r_iload_n dJ0_rangeCheck_46 rfl ?_
  refine r_if_ge 59 dJ0_rangeCheck_47 (by decide) (fun _ => ?_) (fun c_ => absurd (nI_pos' (by omega)) c_)
  refine r_iload_n dJ0_rangeCheck_59 rfl ?_
  refine r_iload_n dJ0_rangeCheck_60 rfl ?_
  refine r_icmp_le 73 dJ0_rangeCheck_61 (by decide) (fun _ => ?_) (fun c_ => absurd (nI_le h2 (by omega)) c_)
  exact r_vret dJ0_rangeCheck_73 rfl (Nat.le_of_ble_eq_true rfl) (Nat.le_of_ble_eq_true rfl) (hQ)
theorem pJ0_fill_2 {h : AHp} {a n lo hi : Nat} {F : Nat → Int32} {v : Int32} {Q : Option Value → AHp → Prop} (h1 : lo ≤ hi) (h2 : hi ≤ n) (hg : aGet h a = some (.inl (.int, n, .inl F))) (hn : n < 1000) (hQ : Q none (aSet h a (.inl (.int, n, .inl (fun i => if lo ≤ i ∧ i < hi then v else F i))))) : AMet mJ0_fill_2 2 0 0 [.ref a, .int (nI lo), .int (nI hi), .int v] h Q := by
  refine AMet.ofRch rfl rfl (Nat.le_of_ble_eq_true rfl) ?_
  refine r_aload_n dJ0_fill_2_0 rfl ?_
  refine r_alen dJ0_fill_2_1 hg 0 rfl ?_
  refine r_iload_n dJ0_fill_2_2 rfl ?_
  refine r_iload_n dJ0_fill_2_3 rfl ?_
  refine r_callS (as := [_, _, _]) okJ0_rangeCheck q726 dJ0_fill_2_4 (Nat.le_of_ble_eq_true rfl) rfl (Nat.le_of_ble_eq_true rfl) (Nat.le_of_ble_eq_true rfl) (Nat.le_of_ble_eq_true rfl) (pJ0_rangeCheck (n := n) h1 h2 hn ?_)
  refine r_iload_n dJ0_fill_2_7 rfl ?_
  refine r_istore dJ0_fill_2_8 (Nat.le_of_ble_eq_true rfl) ?_
  have e0 : (fun i => if lo ≤ i ∧ i < lo then v else F i) = F := by
    funext i
    rw [if_neg (by omega)]
  refine eqP (P := fun z => Rch (mJ0_fill_2, 2, 0, 0, oQ Q) 0 0 10 [some (.ref a), some (.int (nI lo)), some (.int (nI hi)), some (.int v), some (.int (nI lo))] [] z) (aSet_id hg) ?_
  refine eqP (P := fun z => Rch (mJ0_fill_2, 2, 0, 0, oQ Q) 0 0 10 [some (.ref a), some (.int (nI lo)), some (.int (nI hi)), some (.int v), some (.int (nI lo))] [] (aSet h a (.inl (.int, n, .inl z)))) e0 ?_
  refine loopFrom (N := hi) (P := fun k => Rch (mJ0_fill_2, 2, 0, 0, oQ Q) 0 0 10 [some (.ref a), some (.int (nI lo)), some (.int (nI hi)), some (.int v), some (.int (nI k))] [] (aSet h a (.inl (.int, n, .inl (fun i => if lo ≤ i ∧ i < k then v else F i))))) lo h1 ?_ ?_
  · refine r_iload dJ0_fill_2_10 rfl ?_
    refine r_iload_n dJ0_fill_2_12 rfl ?_
    refine r_icmp_ge 27 dJ0_fill_2_13 (by decide) (fun _ => ?_) (fun c_ => absurd (geT hi) c_)
    exact r_vret dJ0_fill_2_27 rfl (Nat.le_of_ble_eq_true rfl) (Nat.le_of_ble_eq_true rfl) (hQ)
  · intro k hk1 hk ih
    have e1 : upd (fun i => if lo ≤ i ∧ i < k then v else F i) k v = fun i => if lo ≤ i ∧ i < k + 1 then v else F i := by
      funext i
      by_cases e : i = k
      · subst e
        rw [pk_us, if_pos (by omega)]
      · rw [pk_un e]
        by_cases g : lo ≤ i ∧ i < k
        · rw [if_pos g, if_pos (by omega)]
        · rw [if_neg g, if_neg (by omega)]
    refine r_iload dJ0_fill_2_10 rfl ?_
    refine r_iload_n dJ0_fill_2_12 rfl ?_
    refine r_icmp_ge 27 dJ0_fill_2_13 (by decide) (fun c_ => absurd c_ (geF hk (by omega))) (fun _ => ?_)
    refine r_aload_n dJ0_fill_2_16 rfl ?_
    refine r_iload dJ0_fill_2_17 rfl ?_
    refine r_iload_n dJ0_fill_2_19 rfl ?_
    refine r_iast dJ0_fill_2_20 (aGet_same hg) (vp_in_nI (by omega) (by omega)) ?_
    rw [aSet_2, nI_clamp (by omega), e1]
    refine r_iincV dJ0_fill_2_21 rfl (Nat.le_of_ble_eq_true rfl) (incN _) ?_
    refine r_goto 10 dJ0_fill_2_24 (by decide) ?_
    exact ih
section XX
variable {iv : Value} {tP : Nat → Int32} {tL : Nat → Option Nat} {tA tK tC tS tH : Nat → Int32} {tN tE tZ tf : Int32} {mP : Nat → Int32} {mf : Int32} {eP eT eF : Nat → Int32} {ef eg : Int32} {ew : Value} {rx gx wx : Nat → Int32} {hv : Nat → Value} {tp : Nat → Int32} {td : Int32} {rf : Nat → Int32} {rc ic : Nat → AC} {th : Nat → Int32} {pf : Int32} {nl : Nat → Option Nat} {ag lk co sh hs : Nat → Int32} {my ev se : Int32} {lc : Nat → AC} {r0 r3 : List AC} {Q : Option Value → AHp → Prop} {n : Nat} {kN : Nat → Nat} {ow : Nat → Int32}
theorem pX1_adds {k a g : Nat} {gg : Int32} (hn : n < 8) (hk : k < 6) (hQ : Q (some (.int (nI n))) (r0, (xC (.ref 2) iv tP tL tA tK tC tS tH tN tE tZ tf mP mf eP eT eF ef eg ew rx gx wx hv tp td rf rc ic), (wC th pf (va_up nl n (some (8 * r3.length + 3))) (upd ag n gg) (upd lk n 0) (upd co n 6) (upd sh n (-1)) (zrI hs (8 * n) 8) (nI (n + 1)) ev se lc), r3 ++ [.inr (7 + k, [.int (nI n), .int (nI a)])])) : AMet mX1_adds 5 1 2 [.ref 2, .int (nI k), .int (nI a), .int gg] (r0, (xC (.ref 2) iv tP tL tA tK tC tS tH tN tE tZ tf mP mf eP eT eF ef eg ew rx gx wx hv tp td rf rc ic), (wC th pf nl ag lk co sh hs (nI n) ev se lc), r3) Q := by
  refine AMet.ofRch rfl rfl (Nat.le_of_ble_eq_true rfl) ?_
  refine r_aload_n dX1_adds_0 rfl ?_
  refine r_get bX1 1 (by decide) q161 dX1_adds_1 rfl rfl ?_
  refine r_aload_n dX1_adds_4 rfl ?_
  refine r_get bX1 7 (by decide) q177 dX1_adds_5 rfl rfl ?_
  refine r_iload_n dX1_adds_8 rfl ?_
  refine r_aload_n dX1_adds_9 rfl ?_
  refine r_get bX1 7 (by decide) q177 dX1_adds_10 rfl rfl ?_
  refine r_iload_n dX1_adds_13 rfl ?_
  refine r_callSN (host := "SeenInOrderOfAge") (as := [_, _, _]) okX0_made (List.mem_of_getElem? (i := 5) rfl) dX1_adds_14 (Nat.le_of_ble_eq_true rfl) rfl (Nat.le_of_ble_eq_true rfl) (Nat.le_of_ble_eq_true rfl) (Nat.le_of_ble_eq_true rfl) (pX0_made hk ?_)
  show Rch _ _ _ _ _ _ (r0, (xC (.ref 2) iv tP tL tA tK tC tS tH tN tE tZ tf mP mf eP eT eF ef eg ew rx gx wx hv tp td rf rc ic), (wC th pf nl ag lk co sh hs (nI n) ev se lc), r3 ++ [.inr (7 + k, [.int (nI n), .int (nI a)])])
  refine r_aast_looker (k := k) (fs := [.int (nI n), .int (nI a)]) dX1_adds_17 rfl (aGet_push (h := (r0, (xC (.ref 2) iv tP tL tA tK tC tS tH tN tE tZ tf mP mf eP eT eF ef eg ew rx gx wx hv tp td rf rc ic), (wC th pf nl ag lk co sh hs (nI n) ev se lc), r3))) hk (vp_in_nI (by omega) (by omega)) ?_
  rw [nI_clamp (by omega)]
  refine r_aload_n dX1_adds_18 rfl ?_
  refine r_get bX1 2 (by decide) q164 dX1_adds_19 rfl rfl ?_
  refine r_aload_n dX1_adds_22 rfl ?_
  refine r_get bX1 7 (by decide) q177 dX1_adds_23 rfl rfl ?_
  refine r_iload_n dX1_adds_26 rfl ?_
  refine r_iastN dX1_adds_27 rfl (by omega) (Nat.le_of_ble_eq_true rfl) ?_
  refine r_aload_n dX1_adds_28 rfl ?_
  refine r_get bX1 3 (by decide) q166 dX1_adds_29 rfl rfl ?_
  refine r_aload_n dX1_adds_32 rfl ?_
  refine r_get bX1 7 (by decide) q177 dX1_adds_33 rfl rfl ?_
  refine r_iconst 0 dX1_adds_36 (by decide) ?_
  refine r_iastN dX1_adds_37 rfl (by omega) (Nat.le_of_ble_eq_true rfl) ?_
  refine r_aload_n dX1_adds_38 rfl ?_
  refine r_get bX1 4 (by decide) q169 dX1_adds_39 rfl rfl ?_
  refine r_aload_n dX1_adds_42 rfl ?_
  refine r_get bX1 7 (by decide) q177 dX1_adds_43 rfl rfl ?_
  refine r_bipush 6 dX1_adds_46 (by decide) ?_
  refine r_iastN dX1_adds_48 rfl (by omega) (Nat.le_of_ble_eq_true rfl) ?_
  refine r_aload_n dX1_adds_49 rfl ?_
  refine r_get bX1 5 (by decide) q172 dX1_adds_50 rfl rfl ?_
  refine r_aload_n dX1_adds_53 rfl ?_
  refine r_get bX1 7 (by decide) q177 dX1_adds_54 rfl rfl ?_
  refine r_iconst (-1) dX1_adds_57 (by decide) ?_
  refine r_iastN dX1_adds_58 rfl (by omega) (Nat.le_of_ble_eq_true rfl) ?_
  refine r_aload_n dX1_adds_59 rfl ?_
  refine r_get bX1 6 (by decide) q175 dX1_adds_60 rfl rfl ?_
  refine r_bipush 8 dX1_adds_63 (by decide) ?_
  refine r_aload_n dX1_adds_65 rfl ?_
  refine r_get bX1 7 (by decide) q177 dX1_adds_66 rfl rfl ?_
  refine r_imul dX1_adds_69 ?_
  rw [show (8 : Int32) * nI n = nI (8 * n) from pk_mul 8 n]
  refine r_bipush 8 dX1_adds_70 (by decide) ?_
  refine r_aload_n dX1_adds_72 rfl ?_
  refine r_get bX1 7 (by decide) q177 dX1_adds_73 rfl rfl ?_
  refine r_imul dX1_adds_76 ?_
  rw [show (8 : Int32) * nI n = nI (8 * n) from pk_mul 8 n]
  refine r_bipush 8 dX1_adds_77 (by decide) ?_
  refine r_iadd dX1_adds_79 ?_
  rw [show (8 : Int32) = nI 8 from rfl, nI_add]
  refine r_iconst 0 dX1_adds_80 (by decide) ?_
  refine r_callS (as := [_, _, _, _]) okJ0_fill_2 q723 dX1_adds_81 (Nat.le_of_ble_eq_true rfl) rfl (Nat.le_of_ble_eq_true rfl) (Nat.le_of_ble_eq_true rfl) (Nat.le_of_ble_eq_true rfl) (pJ0_fill_2 (a := 66) (n := 64) (lo := 8 * n) (hi := 8 * n + 8) (by omega) (by omega) rfl (by decide) ?_)
  refine r_aload_n dX1_adds_84 rfl ?_
  refine r_dup dX1_adds_85 rfl ?_
  refine r_get bX1 7 (by decide) q177 dX1_adds_86 rfl rfl ?_
  refine r_iconst 1 dX1_adds_89 (by decide) ?_
  refine r_iadd dX1_adds_90 ?_
  rw [nI_1]
  refine r_put bX1 7 (by decide) rfl q177 dX1_adds_91 rfl rfl rfl (Nat.le_of_ble_eq_true rfl) ?_
  refine r_aload_n dX1_adds_94 rfl ?_
  refine r_get bX1 7 (by decide) q177 dX1_adds_95 rfl rfl ?_
  refine r_iconst 1 dX1_adds_98 (by decide) ?_
  refine r_isub dX1_adds_99 ?_
  rw [nI_pred]
  exact r_iret dX1_adds_100 rfl (Nat.le_of_ble_eq_true rfl) (Nat.le_of_ble_eq_true rfl) (hQ)
theorem pX0_looker {k a g : Int32} (hn : n ≤ 8) (hbad : (inB k 0 5 && (inB a 0 7 && inB g 0 99)) = false → Q (some (.int (-2))) (r0, (xC (.ref 2) iv tP tL tA tK tC tS tH tN tE tZ tf mP mf eP eT eF ef eg ew rx gx wx hv tp td (upd rf 2 (rf 2 + 1)) rc ic), (wC th pf nl ag lk co sh hs (nI n) ev se lc), r3)) (hfull : inB k 0 5 = true → inB a 0 7 = true → inB g 0 99 = true → n = 8 → Q (some (.int (-6))) (r0, (xC (.ref 2) iv tP tL tA tK tC tS tH tN tE tZ tf mP mf eP eT eF ef eg ew rx gx wx hv tp td (upd rf 6 (rf 6 + 1)) rc ic), (wC th pf nl ag lk co sh hs (nI n) ev se lc), r3)) (hok : ∀ k' a', k' < 6 → a' < 8 → k = nI k' → a = nI a' → inB g 0 99 = true → n < 8 → Q (some (.int (nI n))) (r0, (xC (.ref 2) iv tP tL tA tK tC tS tH tN tE tZ tf mP mf eP eT eF ef eg ew rx gx wx hv tp td rf rc ic), (wC th pf (va_up nl n (some (8 * r3.length + 3))) (upd ag n g) (upd lk n 0) (upd co n 6) (upd sh n (-1)) (zrI hs (8 * n) 8) (nI (n + 1)) ev se lc), r3 ++ [.inr (7 + k', [.int (nI n), .int (nI a')])])) : AMet mX0_looker 6 1 2 [.ref 1, .int k, .int a, .int g] (r0, (xC (.ref 2) iv tP tL tA tK tC tS tH tN tE tZ tf mP mf eP eT eF ef eg ew rx gx wx hv tp td rf rc ic), (wC th pf nl ag lk co sh hs (nI n) ev se lc), r3) Q := by
  refine AMet.ofRch rfl rfl (Nat.le_of_ble_eq_true rfl) ?_
  refine r_iload_n dX0_looker_0 rfl ?_
  refine r_iconst 0 dX0_looker_1 (by decide) ?_
  refine r_iconst 5 dX0_looker_2 (by decide) ?_
  refine r_callS (as := [_, _, _]) okX0_isIn q378 dX0_looker_3 (Nat.le_of_ble_eq_true rfl) rfl (Nat.le_of_ble_eq_true rfl) (Nat.le_of_ble_eq_true rfl) (Nat.le_of_ble_eq_true rfl) (pX0_isIn ?_)
  refine r_if_eq 26 dX0_looker_6 (by decide) (fun c_6 => ?_) (fun c_6 => ?_)
  · refine r_aload_n dX0_looker_26 rfl ?_
    refine r_bipush (-2) dX0_looker_27 (by decide) ?_
    refine r_callV (as := [_]) okX0_no bX0 rfl rfl q381 dX0_looker_29 (Nat.le_of_ble_eq_true rfl) rfl (Nat.le_of_ble_eq_true rfl) (Nat.le_of_ble_eq_true rfl) (Nat.le_of_ble_eq_true rfl) (pX0_no 2 (by decide) (by decide) ?_)
    exact r_iret dX0_looker_32 rfl (Nat.le_of_ble_eq_true rfl) (Nat.le_of_ble_eq_true rfl) (hbad (by simp_all [b2i_0]))
  · refine r_iload_n dX0_looker_9 rfl ?_
    refine r_callS (as := [_]) okX0_isSort q654 dX0_looker_10 (Nat.le_of_ble_eq_true rfl) rfl (Nat.le_of_ble_eq_true rfl) (Nat.le_of_ble_eq_true rfl) (Nat.le_of_ble_eq_true rfl) (pX0_isSort ?_)
    refine r_if_eq 26 dX0_looker_13 (by decide) (fun c_13 => ?_) (fun c_13 => ?_)
    · refine r_aload_n dX0_looker_26 rfl ?_
      refine r_bipush (-2) dX0_looker_27 (by decide) ?_
      refine r_callV (as := [_]) okX0_no bX0 rfl rfl q381 dX0_looker_29 (Nat.le_of_ble_eq_true rfl) rfl (Nat.le_of_ble_eq_true rfl) (Nat.le_of_ble_eq_true rfl) (Nat.le_of_ble_eq_true rfl) (pX0_no 2 (by decide) (by decide) ?_)
      exact r_iret dX0_looker_32 rfl (Nat.le_of_ble_eq_true rfl) (Nat.le_of_ble_eq_true rfl) (hbad (by simp_all [b2i_0]))
    · refine r_iload_n dX0_looker_16 rfl ?_
      refine r_iconst 0 dX0_looker_17 (by decide) ?_
      refine r_bipush 99 dX0_looker_18 (by decide) ?_
      refine r_callS (as := [_, _, _]) okX0_isIn q378 dX0_looker_20 (Nat.le_of_ble_eq_true rfl) rfl (Nat.le_of_ble_eq_true rfl) (Nat.le_of_ble_eq_true rfl) (Nat.le_of_ble_eq_true rfl) (pX0_isIn ?_)
      refine r_if_ne 33 dX0_looker_23 (by decide) (fun c_23 => ?_) (fun c_23 => ?_)
      · have q1 := b2i_n.mp c_6
        have q2 := b2i_n.mp c_13
        have q3 := b2i_n.mp c_23
        by_cases g8 : n = 8
        · subst g8
          refine r_aload_n dX0_looker_33 rfl ?_
          refine r_get bX0 0 (by decide) q246 dX0_looker_34 rfl rfl ?_
          refine r_get bX1 7 (by decide) q179 dX0_looker_37 rfl rfl ?_
          refine r_bipush 8 dX0_looker_40 (by decide) ?_
          refine r_icmp_ne 54 dX0_looker_42 (by decide) (fun c_ => absurd (rfl) c_) (fun _ => ?_)
          refine r_aload_n dX0_looker_45 rfl ?_
          refine r_bipush (-6) dX0_looker_46 (by decide) ?_
          refine r_callV (as := [_]) okX0_no bX0 rfl rfl q381 dX0_looker_48 (Nat.le_of_ble_eq_true rfl) rfl (Nat.le_of_ble_eq_true rfl) (Nat.le_of_ble_eq_true rfl) (Nat.le_of_ble_eq_true rfl) (pX0_no 6 (by decide) (by decide) ?_)
          refine r_goto 64 dX0_looker_51 (by decide) ?_
          exact r_iret dX0_looker_64 rfl (Nat.le_of_ble_eq_true rfl) (Nat.le_of_ble_eq_true rfl) (hfull q1 q2 q3 rfl)
        · obtain ⟨k2, hk2, rfl⟩ := inB_ex 5 (by decide) q1
          obtain ⟨a2, ha2, rfl⟩ := inB_ex 7 (by decide) q2
          refine r_aload_n dX0_looker_33 rfl ?_
          refine r_get bX0 0 (by decide) q246 dX0_looker_34 rfl rfl ?_
          refine r_get bX1 7 (by decide) q179 dX0_looker_37 rfl rfl ?_
          refine r_bipush 8 dX0_looker_40 (by decide) ?_
          refine r_icmp_ne 54 dX0_looker_42 (by decide) (fun _ => ?_) (fun c_ => absurd c_ (fun z => g8 ((nI_eq (by omega) (by omega)).mp z)))
          refine r_aload_n dX0_looker_54 rfl ?_
          refine r_get bX0 0 (by decide) q246 dX0_looker_55 rfl rfl ?_
          refine r_iload_n dX0_looker_58 rfl ?_
          refine r_iload_n dX0_looker_59 rfl ?_
          refine r_iload_n dX0_looker_60 rfl ?_
          refine r_callV (as := [_, _, _]) okX1_adds bX1 rfl rfl q661 dX0_looker_61 (Nat.le_of_ble_eq_true rfl) rfl (Nat.le_of_ble_eq_true rfl) (Nat.le_of_ble_eq_true rfl) (Nat.le_of_ble_eq_true rfl) (pX1_adds (g := 0) (by omega) (by omega) ?_)
          exact r_iret dX0_looker_64 rfl (Nat.le_of_ble_eq_true rfl) (Nat.le_of_ble_eq_true rfl) (hok k2 a2 (by omega) (by omega) rfl rfl q3 (by omega))
      · refine r_aload_n dX0_looker_26 rfl ?_
        refine r_bipush (-2) dX0_looker_27 (by decide) ?_
        refine r_callV (as := [_]) okX0_no bX0 rfl rfl q381 dX0_looker_29 (Nat.le_of_ble_eq_true rfl) rfl (Nat.le_of_ble_eq_true rfl) (Nat.le_of_ble_eq_true rfl) (Nat.le_of_ble_eq_true rfl) (pX0_no 2 (by decide) (by decide) ?_)
        exact r_iret dX0_looker_32 rfl (Nat.le_of_ble_eq_true rfl) (Nat.le_of_ble_eq_true rfl) (hbad (by simp_all [b2i_0]))
theorem pX0_lookerOf_bad {l w : Int32} (hb : inB l 0 (nI n - 1) = false) (hQ : Q (some (.int (-2))) (r0, (xC (.ref 2) iv tP tL tA tK tC tS tH tN tE tZ tf mP mf eP eT eF ef eg ew rx gx wx hv tp td (upd rf 2 (rf 2 + 1)) rc ic), (wC th pf nl ag lk co sh hs (nI n) ev se lc), r3)) : AMet mX0_lookerOf 3 0 0 [.ref 1, .int l, .int w] (r0, (xC (.ref 2) iv tP tL tA tK tC tS tH tN tE tZ tf mP mf eP eT eF ef eg ew rx gx wx hv tp td rf rc ic), (wC th pf nl ag lk co sh hs (nI n) ev se lc), r3) Q := by
  refine AMet.ofRch rfl rfl (Nat.le_of_ble_eq_true rfl) ?_
  refine r_aload_n dX0_lookerOf_0 rfl ?_
  refine r_get bX0 0 (by decide) q246 dX0_lookerOf_1 rfl rfl ?_
  refine r_iload_n dX0_lookerOf_4 rfl ?_
  refine r_callV (as := [_]) okX1_isLooker bX1 rfl rfl q519 dX0_lookerOf_5 (Nat.le_of_ble_eq_true rfl) rfl (Nat.le_of_ble_eq_true rfl) (Nat.le_of_ble_eq_true rfl) (Nat.le_of_ble_eq_true rfl) (pX1_isLooker rfl ?_)
  refine r_if_ne 18 dX0_lookerOf_8 (by decide) (fun c_ => absurd (b2i_0.mpr hb) c_) (fun _ => ?_)
  refine r_aload_n dX0_lookerOf_11 rfl ?_
  refine r_bipush (-2) dX0_lookerOf_12 (by decide) ?_
  refine r_callV (as := [_]) okX0_no bX0 rfl rfl q381 dX0_lookerOf_14 (Nat.le_of_ble_eq_true rfl) rfl (Nat.le_of_ble_eq_true rfl) (Nat.le_of_ble_eq_true rfl) (Nat.le_of_ble_eq_true rfl) (pX0_no 2 (by decide) (by decide) ?_)
  exact r_iret dX0_lookerOf_17 rfl (Nat.le_of_ble_eq_true rfl) (Nat.le_of_ble_eq_true rfl) (hQ)
theorem pX0_lookerOf {j : Nat} {w : Int32} {kd : Nat → Int32} (hn : n ≤ 8) (hL : LkI lc r3 nl kN ow n) (hP : ThI th) (hkd : ∀ j, j < n → kd j = nI (kN j)) (hj : j < n) (h05 : ∀ z, z < 6 → w = nI z → Q (some (.int (loOf kd ow ag lk co sh z j))) (r0, (xC (.ref 2) iv tP tL tA tK tC tS tH tN tE tZ tf mP mf eP eT eF ef eg ew rx gx wx hv tp td rf rc ic), (wC th pf nl ag lk co sh hs (nI n) ev se lc), r3)) (hh : ∀ z, z < 8 → w = nI (10 + z) → Q (some (.int (hs (8 * j + z)))) (r0, (xC (.ref 2) iv tP tL tA tK tC tS tH tN tE tZ tf mP mf eP eT eF ef eg ew rx gx wx hv tp td rf rc ic), (wC th pf nl ag lk co sh hs (nI n) ev se lc), r3)) (hbad : inB w 0 5 = false → inB (w - 10) 0 7 = false → Q (some (.int (-2))) (r0, (xC (.ref 2) iv tP tL tA tK tC tS tH tN tE tZ tf mP mf eP eT eF ef eg ew rx gx wx hv tp td (upd rf 2 (rf 2 + 1)) rc ic), (wC th pf nl ag lk co sh hs (nI n) ev se lc), r3)) : AMet mX0_lookerOf 3 0 0 [.ref 1, .int (nI j), .int w] (r0, (xC (.ref 2) iv tP tL tA tK tC tS tH tN tE tZ tf mP mf eP eT eF ef eg ew rx gx wx hv tp td rf rc ic), (wC th pf nl ag lk co sh hs (nI n) ev se lc), r3) Q := by
  refine AMet.ofRch rfl rfl (Nat.le_of_ble_eq_true rfl) ?_
  have hbr : ¬ b2i (inB (nI j) 0 (nI n - 1)) = 0 := b2i_n.mpr (inB_mI hj (by omega))
  obtain ⟨k6, v, la, hv8, ev8, enl, hla, hcell⟩ := hL.at hj
  cases hb : inB w 0 5 with
  | true =>
    obtain ⟨z, hz, rfl⟩ := inB_ex 5 (by decide) hb
    rcases (show z = 0 ∨ z = 1 ∨ z = 2 ∨ z = 3 ∨ z = 4 ∨ z = 5 by omega) with rfl | rfl | rfl | rfl | rfl | rfl
    · refine r_aload_n dX0_lookerOf_0 rfl ?_
      refine r_get bX0 0 (by decide) q246 dX0_lookerOf_1 rfl rfl ?_
      refine r_iload_n dX0_lookerOf_4 rfl ?_
      refine r_callV (as := [_]) okX1_isLooker bX1 rfl rfl q519 dX0_lookerOf_5 (Nat.le_of_ble_eq_true rfl) rfl (Nat.le_of_ble_eq_true rfl) (Nat.le_of_ble_eq_true rfl) (Nat.le_of_ble_eq_true rfl) (pX1_isLooker rfl ?_)
      refine r_if_ne 18 dX0_lookerOf_8 (by decide) (fun _ => ?_) (fun c_ => absurd c_ (hbr))
      refine r_iload_n dX0_lookerOf_18 rfl ?_
      refine r_tableIn 56 dX0_lookerOf_19 (by decide) (by decide) rfl (by decide) ?_
      refine r_aload_n dX0_lookerOf_56 rfl ?_
      refine r_get bX0 0 (by decide) q246 dX0_lookerOf_57 rfl rfl ?_
      refine r_get bX1 1 (by decide) q163 dX0_lookerOf_60 rfl rfl ?_
      refine r_iload_n dX0_lookerOf_63 rfl ?_
      refine r_aald_looker dX0_lookerOf_64 rfl (vp_in_nI (by omega) (by omega)) ?_
      rw [nI_clamp (by omega), enl]
      refine r_kind k6 (hcell _ _ _ _ _ _ _ _ _ _ _ _ _) q1195 dX0_lookerOf_65 (Nat.le_of_ble_eq_true rfl) (Nat.le_of_ble_eq_true rfl) (Nat.le_of_ble_eq_true rfl) (Nat.le_of_ble_eq_true rfl) ?_
      exact r_iret dX0_lookerOf_68 rfl (Nat.le_of_ble_eq_true rfl) (Nat.le_of_ble_eq_true rfl) (qi (hkd j hj).symm (h05 0 (by decide) rfl))
    · refine r_aload_n dX0_lookerOf_0 rfl ?_
      refine r_get bX0 0 (by decide) q246 dX0_lookerOf_1 rfl rfl ?_
      refine r_iload_n dX0_lookerOf_4 rfl ?_
      refine r_callV (as := [_]) okX1_isLooker bX1 rfl rfl q519 dX0_lookerOf_5 (Nat.le_of_ble_eq_true rfl) rfl (Nat.le_of_ble_eq_true rfl) (Nat.le_of_ble_eq_true rfl) (Nat.le_of_ble_eq_true rfl) (pX1_isLooker rfl ?_)
      refine r_if_ne 18 dX0_lookerOf_8 (by decide) (fun _ => ?_) (fun c_ => absurd c_ (hbr))
      refine r_iload_n dX0_lookerOf_18 rfl ?_
      refine r_tableIn 69 dX0_lookerOf_19 (by decide) (by decide) rfl (by decide) ?_
      refine r_aload_n dX0_lookerOf_69 rfl ?_
      refine r_get bX0 0 (by decide) q246 dX0_lookerOf_70 rfl rfl ?_
      refine r_get bX1 1 (by decide) q163 dX0_lookerOf_73 rfl rfl ?_
      refine r_iload_n dX0_lookerOf_76 rfl ?_
      refine r_aald_looker dX0_lookerOf_77 rfl (vp_in_nI (by omega) (by omega)) ?_
      rw [nI_clamp (by omega), enl]
      refine r_lkA q680 dX0_lookerOf_78 k6 (hcell _ _ _ _ _ _ _ _ _ _ _ _ _) ?_
      exact r_iret dX0_lookerOf_81 rfl (Nat.le_of_ble_eq_true rfl) (Nat.le_of_ble_eq_true rfl) (qi ev8.symm (h05 1 (by decide) rfl))
    · refine r_aload_n dX0_lookerOf_0 rfl ?_
      refine r_get bX0 0 (by decide) q246 dX0_lookerOf_1 rfl rfl ?_
      refine r_iload_n dX0_lookerOf_4 rfl ?_
      refine r_callV (as := [_]) okX1_isLooker bX1 rfl rfl q519 dX0_lookerOf_5 (Nat.le_of_ble_eq_true rfl) rfl (Nat.le_of_ble_eq_true rfl) (Nat.le_of_ble_eq_true rfl) (Nat.le_of_ble_eq_true rfl) (pX1_isLooker rfl ?_)
      refine r_if_ne 18 dX0_lookerOf_8 (by decide) (fun _ => ?_) (fun c_ => absurd c_ (hbr))
      refine r_iload_n dX0_lookerOf_18 rfl ?_
      refine r_tableIn 82 dX0_lookerOf_19 (by decide) (by decide) rfl (by decide) ?_
      refine r_aload_n dX0_lookerOf_82 rfl ?_
      refine r_get bX0 0 (by decide) q246 dX0_lookerOf_83 rfl rfl ?_
      refine r_get bX1 2 (by decide) q165 dX0_lookerOf_86 rfl rfl ?_
      refine r_iload_n dX0_lookerOf_89 rfl ?_
      refine r_ialdN dX0_lookerOf_90 rfl (by omega) (Nat.le_of_ble_eq_true rfl) ?_
      exact r_iret dX0_lookerOf_91 rfl (Nat.le_of_ble_eq_true rfl) (Nat.le_of_ble_eq_true rfl) (h05 2 (by decide) rfl)
    · refine r_aload_n dX0_lookerOf_0 rfl ?_
      refine r_get bX0 0 (by decide) q246 dX0_lookerOf_1 rfl rfl ?_
      refine r_iload_n dX0_lookerOf_4 rfl ?_
      refine r_callV (as := [_]) okX1_isLooker bX1 rfl rfl q519 dX0_lookerOf_5 (Nat.le_of_ble_eq_true rfl) rfl (Nat.le_of_ble_eq_true rfl) (Nat.le_of_ble_eq_true rfl) (Nat.le_of_ble_eq_true rfl) (pX1_isLooker rfl ?_)
      refine r_if_ne 18 dX0_lookerOf_8 (by decide) (fun _ => ?_) (fun c_ => absurd c_ (hbr))
      refine r_iload_n dX0_lookerOf_18 rfl ?_
      refine r_tableIn 92 dX0_lookerOf_19 (by decide) (by decide) rfl (by decide) ?_
      refine r_aload_n dX0_lookerOf_92 rfl ?_
      refine r_get bX0 0 (by decide) q246 dX0_lookerOf_93 rfl rfl ?_
      refine r_get bX1 3 (by decide) q168 dX0_lookerOf_96 rfl rfl ?_
      refine r_iload_n dX0_lookerOf_99 rfl ?_
      refine r_ialdN dX0_lookerOf_100 rfl (by omega) (Nat.le_of_ble_eq_true rfl) ?_
      exact r_iret dX0_lookerOf_101 rfl (Nat.le_of_ble_eq_true rfl) (Nat.le_of_ble_eq_true rfl) (h05 3 (by decide) rfl)
    · refine r_aload_n dX0_lookerOf_0 rfl ?_
      refine r_get bX0 0 (by decide) q246 dX0_lookerOf_1 rfl rfl ?_
      refine r_iload_n dX0_lookerOf_4 rfl ?_
      refine r_callV (as := [_]) okX1_isLooker bX1 rfl rfl q519 dX0_lookerOf_5 (Nat.le_of_ble_eq_true rfl) rfl (Nat.le_of_ble_eq_true rfl) (Nat.le_of_ble_eq_true rfl) (Nat.le_of_ble_eq_true rfl) (pX1_isLooker rfl ?_)
      refine r_if_ne 18 dX0_lookerOf_8 (by decide) (fun _ => ?_) (fun c_ => absurd c_ (hbr))
      refine r_iload_n dX0_lookerOf_18 rfl ?_
      refine r_tableIn 102 dX0_lookerOf_19 (by decide) (by decide) rfl (by decide) ?_
      refine r_aload_n dX0_lookerOf_102 rfl ?_
      refine r_get bX0 0 (by decide) q246 dX0_lookerOf_103 rfl rfl ?_
      refine r_get bX1 4 (by decide) q171 dX0_lookerOf_106 rfl rfl ?_
      refine r_iload_n dX0_lookerOf_109 rfl ?_
      refine r_ialdN dX0_lookerOf_110 rfl (by omega) (Nat.le_of_ble_eq_true rfl) ?_
      exact r_iret dX0_lookerOf_111 rfl (Nat.le_of_ble_eq_true rfl) (Nat.le_of_ble_eq_true rfl) (h05 4 (by decide) rfl)
    · refine r_aload_n dX0_lookerOf_0 rfl ?_
      refine r_get bX0 0 (by decide) q246 dX0_lookerOf_1 rfl rfl ?_
      refine r_iload_n dX0_lookerOf_4 rfl ?_
      refine r_callV (as := [_]) okX1_isLooker bX1 rfl rfl q519 dX0_lookerOf_5 (Nat.le_of_ble_eq_true rfl) rfl (Nat.le_of_ble_eq_true rfl) (Nat.le_of_ble_eq_true rfl) (Nat.le_of_ble_eq_true rfl) (pX1_isLooker rfl ?_)
      refine r_if_ne 18 dX0_lookerOf_8 (by decide) (fun _ => ?_) (fun c_ => absurd c_ (hbr))
      refine r_iload_n dX0_lookerOf_18 rfl ?_
      refine r_tableIn 112 dX0_lookerOf_19 (by decide) (by decide) rfl (by decide) ?_
      refine r_aload_n dX0_lookerOf_112 rfl ?_
      refine r_get bX0 0 (by decide) q246 dX0_lookerOf_113 rfl rfl ?_
      refine r_get bX1 5 (by decide) q174 dX0_lookerOf_116 rfl rfl ?_
      refine r_iload_n dX0_lookerOf_119 rfl ?_
      refine r_ialdN dX0_lookerOf_120 rfl (by omega) (Nat.le_of_ble_eq_true rfl) ?_
      exact r_iret dX0_lookerOf_121 rfl (Nat.le_of_ble_eq_true rfl) (Nat.le_of_ble_eq_true rfl) (h05 5 (by decide) rfl)
  | false =>
    have hout : w.toInt < 0 ∨ 5 < w.toInt := by
      simp only [inB, Bool.and_eq_false_iff, decide_eq_false_iff_not, Int32.le_iff_toInt_le] at hb
      have e0 : (0 : Int32).toInt = 0 := by decide
      have e5 : (5 : Int32).toInt = 5 := by decide
      omega
    refine r_aload_n dX0_lookerOf_0 rfl ?_
    refine r_get bX0 0 (by decide) q246 dX0_lookerOf_1 rfl rfl ?_
    refine r_iload_n dX0_lookerOf_4 rfl ?_
    refine r_callV (as := [_]) okX1_isLooker bX1 rfl rfl q519 dX0_lookerOf_5 (Nat.le_of_ble_eq_true rfl) rfl (Nat.le_of_ble_eq_true rfl) (Nat.le_of_ble_eq_true rfl) (Nat.le_of_ble_eq_true rfl) (pX1_isLooker rfl ?_)
    refine r_if_ne 18 dX0_lookerOf_8 (by decide) (fun _ => ?_) (fun c_ => absurd c_ (hbr))
    refine r_iload_n dX0_lookerOf_18 rfl ?_
    refine r_tableOut 122 dX0_lookerOf_19 hout (by decide) ?_
    refine r_iload_n dX0_lookerOf_122 rfl ?_
    refine r_bipush 10 dX0_lookerOf_123 (by decide) ?_
    refine r_isub dX0_lookerOf_125 ?_
    refine r_callS (as := [_]) okX0_isSort q654 dX0_lookerOf_126 (Nat.le_of_ble_eq_true rfl) rfl (Nat.le_of_ble_eq_true rfl) (Nat.le_of_ble_eq_true rfl) (Nat.le_of_ble_eq_true rfl) (pX0_isSort ?_)
    refine r_if_eq 152 dX0_lookerOf_129 (by decide) (fun c_129 => ?_) (fun c_129 => ?_)
    · refine r_aload_n dX0_lookerOf_152 rfl ?_
      refine r_bipush (-2) dX0_lookerOf_153 (by decide) ?_
      refine r_callV (as := [_]) okX0_no bX0 rfl rfl q381 dX0_lookerOf_155 (Nat.le_of_ble_eq_true rfl) rfl (Nat.le_of_ble_eq_true rfl) (Nat.le_of_ble_eq_true rfl) (Nat.le_of_ble_eq_true rfl) (pX0_no 2 (by decide) (by decide) ?_)
      exact r_iret dX0_lookerOf_158 rfl (Nat.le_of_ble_eq_true rfl) (Nat.le_of_ble_eq_true rfl) (hbad hb (b2i_0.mp c_129))
    · obtain ⟨z, hz, e⟩ := inB_ex 7 (by decide) (b2i_n.mp c_129)
      have ew : w = nI (10 + z) := by
        have : w = nI z + 10 := by rw [← e]; simp
        rw [this, show (10 : Int32) = nI 10 from rfl, nI_add, Nat.add_comm]
      subst ew
      refine r_aload_n dX0_lookerOf_132 rfl ?_
      refine r_get bX0 0 (by decide) q246 dX0_lookerOf_133 rfl rfl ?_
      refine r_get bX1 6 (by decide) q176 dX0_lookerOf_136 rfl rfl ?_
      refine r_bipush 8 dX0_lookerOf_139 (by decide) ?_
      refine r_iload_n dX0_lookerOf_141 rfl ?_
      refine r_imul dX0_lookerOf_142 ?_
      rw [show (8 : Int32) * nI j = nI (8 * j) from pk_mul 8 j]
      refine r_iload_n dX0_lookerOf_143 rfl ?_
      refine r_iadd dX0_lookerOf_144 ?_
      refine r_bipush 10 dX0_lookerOf_145 (by decide) ?_
      refine r_isub dX0_lookerOf_147 ?_
      rw [nI_add, show (10 : Int32) = nI 10 from rfl, pk_sub (by omega), show 8 * j + (10 + z) - 10 = 8 * j + z by omega]
      refine r_ialdN dX0_lookerOf_148 rfl (by omega) (Nat.le_of_ble_eq_true rfl) ?_
      refine r_goto 158 dX0_lookerOf_149 (by decide) ?_
      exact r_iret dX0_lookerOf_158 rfl (Nat.le_of_ble_eq_true rfl) (Nat.le_of_ble_eq_true rfl) (hh z (by omega) rfl)
end XX
