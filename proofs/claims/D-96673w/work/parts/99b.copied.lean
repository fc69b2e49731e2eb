set_option maxRecDepth 100000
/-! the component: a window's copy, image, back -/
/-- a window's cells as they are made, behind k others -/
def wD (k : Nat) (pf : Int32) (th : Nat → Int32) (nl : Nat → Option Nat) (ag lk co sh hs : Nat → Int32) (my ev se : Int32) : List AC := [.inr (1, [.ref (8 * (k + 1) + 3), .ref (8 * (k + 3) + 3), .ref (8 * (k + 4) + 3), .ref (8 * (k + 5) + 3), .ref (8 * (k + 6) + 3), .ref (8 * (k + 7) + 3), .ref (8 * (k + 8) + 3), .int my, .int ev, .int se]), .inr (2, [.ref (8 * (k + 2) + 3), .int pf]), .inl (.int, 12, .inl th), .inl (.object "SeenInOrderOfAge$Looker", 8, .inr (.inr (.inr (.inr nl)))), .inl (.int, 8, .inl ag), .inl (.int, 8, .inl lk), .inl (.int, 8, .inl co), .inl (.int, 8, .inl sh), .inl (.int, 64, .inl hs)]
/-- a window lies there -/
def WinAt (h : AHp) (w : Nat) (th : Nat → Int32) (nl : Nat → Option Nat) (ag lk co sh hs : Nat → Int32) (my ev se : Int32) : Prop := ∃ (pp pt pl pa pk pc ps ph : Nat) (pf : Int32), aGet h w = some (.inr (1, [.ref pp, .ref pl, .ref pa, .ref pk, .ref pc, .ref ps, .ref ph, .int my, .int ev, .int se])) ∧ aGet h pp = some (.inr (2, [.ref pt, .int pf])) ∧ aGet h pt = some (.inl (.int, 12, .inl th)) ∧ aGet h pl = some (.inl (.object "SeenInOrderOfAge$Looker", 8, .inr (.inr (.inr (.inr nl))))) ∧ aGet h pa = some (.inl (.int, 8, .inl ag)) ∧ aGet h pk = some (.inl (.int, 8, .inl lk)) ∧ aGet h pc = some (.inl (.int, 8, .inl co)) ∧ aGet h ps = some (.inl (.int, 8, .inl sh)) ∧ aGet h ph = some (.inl (.int, 64, .inl hs))
/-- its lookers are lookers -/
def LksAt (h : AHp) (nl : Nat → Option Nat) : Prop := ∀ i, i < 8 → ∀ y, nl i = some y → ∃ c fs, c < 6 ∧ aGet h y = some (.inr (7 + c, fs))
section XX
variable {r0 x1 h2 D : List AC} {k : Nat} {Q : Option Value → AHp → Prop} {pf0 : Int32} {th0 : Nat → Int32} {nl0 : Nat → Option Nat} {ag0 lk0 co0 sh0 hs0 : Nat → Int32} {my0 ev0 se0 : Int32} {th : Nat → Int32} {nl : Nat → Option Nat} {ag lk co sh hs : Nat → Int32} {my ev se : Int32}
theorem pX1_becomes_d {w : Nat} (hk : D.length = k) (hw : WinAt (r0, x1, h2, D) w th nl ag lk co sh hs my ev se) (hlk : LksAt (r0, x1, h2, D) nl) (hQ : Q (some (.ref (8 * (k + 0) + 3))) (r0, x1, h2, D ++ wD k pf0 th nl ag lk co sh hs my ev se)) : AMet mX1_becomes 2 0 0 [.ref (8 * (k + 0) + 3), .ref w] (r0, x1, h2, D ++ wD k pf0 th0 nl0 ag0 lk0 co0 sh0 hs0 my0 ev0 se0) Q := by
  refine AMet.ofRch rfl rfl (Nat.le_of_ble_eq_true rfl) ?_
  obtain ⟨pp, pt, pl, pa, pk, pc, ps, ph, pf, s0, s1, s2, s3, s4, s5, s6, s7, s8⟩ := hw
  refine r_aload_n dX1_becomes_0 rfl ?_
  refine r_get bX1 0 (by decide) q157 dX1_becomes_1 (dynG hk (i := 0) rfl) rfl ?_
  refine r_aload_n dX1_becomes_4 rfl ?_
  refine r_get bX1 0 (by decide) q157 dX1_becomes_5 (dyn_other s0) rfl ?_
  refine r_callV (as := [_]) okX2_becomes bX2 rfl (dynG hk (i := 1) rfl) q1004 dX1_becomes_8 (Nat.le_of_ble_eq_true rfl) rfl (Nat.le_of_ble_eq_true rfl) (Nat.le_of_ble_eq_true rfl) (Nat.le_of_ble_eq_true rfl) (pX2_becomes (dynG hk (i := 1) rfl) (dynG hk (i := 2) rfl) (dyn_other s1) (dyn_other s2) ?_)
  rw [dynS hk (i := 2)]
  show Rch _ _ _ _ _ _ (r0, x1, h2, D ++ wD k pf0 th nl0 ag0 lk0 co0 sh0 hs0 my0 ev0 se0)
  refine r_pop dX1_becomes_11 rfl ?_
  refine r_aload_n dX1_becomes_12 rfl ?_
  refine r_get bX1 1 (by decide) q161 dX1_becomes_13 (dyn_other s0) rfl ?_
  refine r_iconst 0 dX1_becomes_16 (by decide) ?_
  refine r_aload_n dX1_becomes_17 rfl ?_
  refine r_get bX1 1 (by decide) q161 dX1_becomes_18 (dynG hk (i := 0) rfl) rfl ?_
  refine r_iconst 0 dX1_becomes_21 (by decide) ?_
  refine r_bipush 8 dX1_becomes_22 (by decide) ?_
  refine r_copyq q1005 dX1_becomes_24 (dyn_other s3) (dynG hk (i := 3) rfl) (by decide) (by decide) (by decide) (by decide) (by decide) (fun i hi y hy => by obtain ⟨c, fs, z1, z2⟩ := hlk i hi y (by rw [← hy]; exact congrArg nl (Nat.zero_add i).symm); exact ⟨c, fs, z1, dyn_other z2⟩) (Nat.le_of_ble_eq_true rfl) ?_
  rw [dynS hk (i := 3)]
  refine r_normQ (a := 8 * (k + 3) + 3) (n := 8) nl (dynG hk (i := 3) rfl) (fun j hj => cpy_in hj) ?_
  rw [dynS hk (i := 3)]
  show Rch _ _ _ _ _ _ (r0, x1, h2, D ++ wD k pf0 th nl ag0 lk0 co0 sh0 hs0 my0 ev0 se0)
  refine r_aload_n dX1_becomes_27 rfl ?_
  refine r_get bX1 2 (by decide) q164 dX1_becomes_28 (dyn_other s0) rfl ?_
  refine r_iconst 0 dX1_becomes_31 (by decide) ?_
  refine r_aload_n dX1_becomes_32 rfl ?_
  refine r_get bX1 2 (by decide) q164 dX1_becomes_33 (dynG hk (i := 0) rfl) rfl ?_
  refine r_iconst 0 dX1_becomes_36 (by decide) ?_
  refine r_bipush 8 dX1_becomes_37 (by decide) ?_
  refine r_copyi (ty := .int) 0 rfl rfl q1005 dX1_becomes_39 (dyn_other s4) (dynG hk (i := 4) rfl) (by decide) (by decide) (by decide) (by decide) (by decide) (fun _ _ => rfl) (Nat.le_of_ble_eq_true rfl) ?_
  rw [dynS hk (i := 4)]
  refine r_norm (a := 8 * (k + 4) + 3) (n := 8) ag (dynG hk (i := 4) rfl) (fun j hj => cpy_in hj) ?_
  rw [dynS hk (i := 4)]
  show Rch _ _ _ _ _ _ (r0, x1, h2, D ++ wD k pf0 th nl ag lk0 co0 sh0 hs0 my0 ev0 se0)
  refine r_aload_n dX1_becomes_42 rfl ?_
  refine r_get bX1 3 (by decide) q166 dX1_becomes_43 (dyn_other s0) rfl ?_
  refine r_iconst 0 dX1_becomes_46 (by decide) ?_
  refine r_aload_n dX1_becomes_47 rfl ?_
  refine r_get bX1 3 (by decide) q166 dX1_becomes_48 (dynG hk (i := 0) rfl) rfl ?_
  refine r_iconst 0 dX1_becomes_51 (by decide) ?_
  refine r_bipush 8 dX1_becomes_52 (by decide) ?_
  refine r_copyi (ty := .int) 0 rfl rfl q1005 dX1_becomes_54 (dyn_other s5) (dynG hk (i := 5) rfl) (by decide) (by decide) (by decide) (by decide) (by decide) (fun _ _ => rfl) (Nat.le_of_ble_eq_true rfl) ?_
  rw [dynS hk (i := 5)]
  refine r_norm (a := 8 * (k + 5) + 3) (n := 8) lk (dynG hk (i := 5) rfl) (fun j hj => cpy_in hj) ?_
  rw [dynS hk (i := 5)]
  show Rch _ _ _ _ _ _ (r0, x1, h2, D ++ wD k pf0 th nl ag lk co0 sh0 hs0 my0 ev0 se0)
  refine r_aload_n dX1_becomes_57 rfl ?_
  refine r_get bX1 4 (by decide) q169 dX1_becomes_58 (dyn_other s0) rfl ?_
  refine r_iconst 0 dX1_becomes_61 (by decide) ?_
  refine r_aload_n dX1_becomes_62 rfl ?_
  refine r_get bX1 4 (by decide) q169 dX1_becomes_63 (dynG hk (i := 0) rfl) rfl ?_
  refine r_iconst 0 dX1_becomes_66 (by decide) ?_
  refine r_bipush 8 dX1_becomes_67 (by decide) ?_
  refine r_copyi (ty := .int) 0 rfl rfl q1005 dX1_becomes_69 (dyn_other s6) (dynG hk (i := 6) rfl) (by decide) (by decide) (by decide) (by decide) (by decide) (fun _ _ => rfl) (Nat.le_of_ble_eq_true rfl) ?_
  rw [dynS hk (i := 6)]
  refine r_norm (a := 8 * (k + 6) + 3) (n := 8) co (dynG hk (i := 6) rfl) (fun j hj => cpy_in hj) ?_
  rw [dynS hk (i := 6)]
  show Rch _ _ _ _ _ _ (r0, x1, h2, D ++ wD k pf0 th nl ag lk co sh0 hs0 my0 ev0 se0)
  refine r_aload_n dX1_becomes_72 rfl ?_
  refine r_get bX1 5 (by decide) q172 dX1_becomes_73 (dyn_other s0) rfl ?_
  refine r_iconst 0 dX1_becomes_76 (by decide) ?_
  refine r_aload_n dX1_becomes_77 rfl ?_
  refine r_get bX1 5 (by decide) q172 dX1_becomes_78 (dynG hk (i := 0) rfl) rfl ?_
  refine r_iconst 0 dX1_becomes_81 (by decide) ?_
  refine r_bipush 8 dX1_becomes_82 (by decide) ?_
  refine r_copyi (ty := .int) 0 rfl rfl q1005 dX1_becomes_84 (dyn_other s7) (dynG hk (i := 7) rfl) (by decide) (by decide) (by decide) (by decide) (by decide) (fun _ _ => rfl) (Nat.le_of_ble_eq_true rfl) ?_
  rw [dynS hk (i := 7)]
  refine r_norm (a := 8 * (k + 7) + 3) (n := 8) sh (dynG hk (i := 7) rfl) (fun j hj => cpy_in hj) ?_
  rw [dynS hk (i := 7)]
  show Rch _ _ _ _ _ _ (r0, x1, h2, D ++ wD k pf0 th nl ag lk co sh hs0 my0 ev0 se0)
  refine r_aload_n dX1_becomes_87 rfl ?_
  refine r_get bX1 6 (by decide) q175 dX1_becomes_88 (dyn_other s0) rfl ?_
  refine r_iconst 0 dX1_becomes_91 (by decide) ?_
  refine r_aload_n dX1_becomes_92 rfl ?_
  refine r_get bX1 6 (by decide) q175 dX1_becomes_93 (dynG hk (i := 0) rfl) rfl ?_
  refine r_iconst 0 dX1_becomes_96 (by decide) ?_
  refine r_bipush 64 dX1_becomes_97 (by decide) ?_
  refine r_copyi (ty := .int) 0 rfl rfl q1005 dX1_becomes_99 (dyn_other s8) (dynG hk (i := 8) rfl) (by decide) (by decide) (by decide) (by decide) (by decide) (fun _ _ => rfl) (Nat.le_of_ble_eq_true rfl) ?_
  rw [dynS hk (i := 8)]
  refine r_norm (a := 8 * (k + 8) + 3) (n := 64) hs (dynG hk (i := 8) rfl) (fun j hj => cpy_in hj) ?_
  rw [dynS hk (i := 8)]
  show Rch _ _ _ _ _ _ (r0, x1, h2, D ++ wD k pf0 th nl ag lk co sh hs my0 ev0 se0)
  refine r_aload_n dX1_becomes_102 rfl ?_
  refine r_aload_n dX1_becomes_103 rfl ?_
  refine r_get bX1 7 (by decide) q177 dX1_becomes_104 (dyn_other s0) rfl ?_
  refine r_put bX1 7 (by decide) rfl q177 dX1_becomes_107 rfl rfl (dynG hk (i := 0) rfl) (Nat.le_of_ble_eq_true rfl) ?_
  rw [dynS hk (i := 0)]
  show Rch _ _ _ _ _ _ (r0, x1, h2, D ++ wD k pf0 th nl ag lk co sh hs my ev0 se0)
  refine r_aload_n dX1_becomes_110 rfl ?_
  refine r_aload_n dX1_becomes_111 rfl ?_
  refine r_get bX1 8 (by decide) q180 dX1_becomes_112 (dyn_other s0) rfl ?_
  refine r_put bX1 8 (by decide) rfl q180 dX1_becomes_115 rfl rfl (dynG hk (i := 0) rfl) (Nat.le_of_ble_eq_true rfl) ?_
  rw [dynS hk (i := 0)]
  show Rch _ _ _ _ _ _ (r0, x1, h2, D ++ wD k pf0 th nl ag lk co sh hs my ev se0)
  refine r_aload_n dX1_becomes_118 rfl ?_
  refine r_aload_n dX1_becomes_119 rfl ?_
  refine r_get bX1 9 (by decide) q182 dX1_becomes_120 (dyn_other s0) rfl ?_
  refine r_put bX1 9 (by decide) rfl q182 dX1_becomes_123 rfl rfl (dynG hk (i := 0) rfl) (Nat.le_of_ble_eq_true rfl) ?_
  rw [dynS hk (i := 0)]
  show Rch _ _ _ _ _ _ (r0, x1, h2, D ++ wD k pf0 th nl ag lk co sh hs my ev se)
  refine r_aload_n dX1_becomes_126 rfl ?_
  exact r_aret dX1_becomes_127 rfl (by first | exact Or.inl ⟨_, rfl⟩ | exact Or.inr ⟨_, rfl⟩) (Nat.le_of_ble_eq_true rfl) (Nat.le_of_ble_eq_true rfl) (hQ)
theorem pX1_copied {w : Nat} (hk : D.length = k) (hw : WinAt (r0, x1, h2, D) w th nl ag lk co sh hs my ev se) (hlk : LksAt (r0, x1, h2, D) nl) (hQ : Q (some (.ref (8 * (k + 0) + 3))) (r0, x1, h2, D ++ wD k 0 th nl ag lk co sh hs my ev se)) : AMet mX1_copied 4 9 128 [.ref w] (r0, x1, h2, D) Q := by
  refine AMet.ofRch rfl rfl (Nat.le_of_ble_eq_true rfl) ?_
  have e0 : (r0, x1, h2, D) = (r0, x1, h2, D ++ []) := by rw [List.append_nil]
  have hw2 := hw
  obtain ⟨pp, pt, pl, pa, pk, pc, ps, ph, pf, s0, -⟩ := hw2
  rw [e0]
  refine r_newD hk 0 rfl bX1 [.null, .null, .null, .null, .null, .null, .null, .int 0, .int 0, .int 0] (by decide) (fun _ => rfl) q998 q128 q84 dX1_copied_0 (Nat.le_of_ble_eq_true rfl) (Nat.le_of_ble_eq_true rfl) ?_
  refine r_dup dX1_copied_3 rfl ?_
  refine r_callI (as := []) okX1_init q999 dX1_copied_4 (Nat.le_of_ble_eq_true rfl) rfl (Nat.le_of_ble_eq_true rfl) (Nat.le_of_ble_eq_true rfl) (Nat.le_of_ble_eq_true rfl) (pX1_init hk ?_)
  show Rch _ _ _ _ _ _ (r0, x1, h2, D ++ wD k 0 (fun _ => -1) (fun _ => none) (fun _ => 0) (fun _ => 0) (fun _ => 0) (fun _ => 0) (fun _ => 0) 0 0 1)
  refine r_aload_n dX1_copied_7 rfl ?_
  refine r_callV (as := [_]) okX1_becomes bX1 rfl (dynG hk (i := 0) rfl) q1000 dX1_copied_8 (Nat.le_of_ble_eq_true rfl) rfl (Nat.le_of_ble_eq_true rfl) (Nat.le_of_ble_eq_true rfl) (Nat.le_of_ble_eq_true rfl) (pX1_becomes_d hk hw hlk ?_)
  exact r_aret dX1_copied_11 rfl (by first | exact Or.inl ⟨_, rfl⟩ | exact Or.inr ⟨_, rfl⟩) (Nat.le_of_ble_eq_true rfl) (Nat.le_of_ble_eq_true rfl) (hQ)
end XX
