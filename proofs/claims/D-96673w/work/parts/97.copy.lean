set_option maxRecDepth 100000
/-! the component: copy -/
theorem r_aloadN {J : Jb} {ce sl pc : Nat} {lv : List (Option Value)} {st : List Value} {h : AHp} {n : Nat} (hd : decode J.1.2.1 pc = .ok (.aload n, 2)) (hv : lv[n]? = some (some .null)) (k : Rch J ce sl (pc + 2) lv (.null :: st) h) : Rch J ce sl pc lv st h :=
  fun l G sg R p e s m args below meth c H locs ls hR C hl hH hS => lv_aloadN C.1 C.2.1 hd (hl.2.2 _ _ hv) (k l G sg R p e s m args below meth c H locs ls hR C hl hH hS)
theorem r_astoreN {J : Jb} {ce sl pc : Nat} {lv : List (Option Value)} {st : List Value} {h : AHp} {n : Nat} (hd : decode J.1.2.1 pc = .ok (.astore n, 2)) (hn : n < J.1.2.2.1) (k : Rch J ce sl (pc + 2) (lvS1 lv n .null) st h) : Rch J ce sl pc lv (.null :: st) h :=
  fun l G sg R p e s m args below meth c H locs ls hR C hl hH hS => lv_astoreN C.1 C.2.1 hd hl.has hn rfl fun ls' h' => k l G sg R p e s m args below meth c H locs ls' hR C (LvH.store1 (v := .null) h') hH hS
theorem fit_b {y : Int64} (h : keF 0 y = y) : fits .byte (.int y.toInt32) = true := by
  have h : y.toInt32.toInt8.toInt32.toInt64 = y := h
  have e : y.toInt32 = y.toInt32.toInt8.toInt32 := by
    conv => lhs; rw [← h, Int32.toInt32_toInt64]
  rw [e]
  generalize y.toInt32.toInt8 = z
  have h1 := z.le_toInt
  have h2 := z.toInt_lt
  have e1 : (-128 : Int32).toInt = -128 := by decide
  have e2 : (127 : Int32).toInt = 127 := by decide
  show (decide ((-128 : Int32) ≤ z.toInt32) && decide (z.toInt32 ≤ 127)) = true
  simp only [Bool.and_eq_true, decide_eq_true_eq]
  rw [Int32.le_iff_toInt_le, Int32.le_iff_toInt_le, e1, e2, Int8.toInt_toInt32]
  omega
theorem fit_s {y : Int64} (h : keF 1 y = y) : fits .short (.int y.toInt32) = true := by
  have h : y.toInt32.toInt16.toInt32.toInt64 = y := h
  have e : y.toInt32 = y.toInt32.toInt16.toInt32 := by
    conv => lhs; rw [← h, Int32.toInt32_toInt64]
  rw [e]
  generalize y.toInt32.toInt16 = z
  have h1 := z.le_toInt
  have h2 := z.toInt_lt
  have e1 : (-32768 : Int32).toInt = -32768 := by decide
  have e2 : (32767 : Int32).toInt = 32767 := by decide
  show (decide ((-32768 : Int32) ≤ z.toInt32) && decide (z.toInt32 ≤ 32767)) = true
  simp only [Bool.and_eq_true, decide_eq_true_eq]
  rw [Int32.le_iff_toInt_le, Int32.le_iff_toInt_le, e1, e2, Int16.toInt_toInt32]
  omega
theorem fit_z {y : Int64} (h : keF 4 y = y) : fits .boolean (.int y.toInt32) = true := by
  rcases ke_z h with e | e <;> rw [e] <;> rfl
section XX
variable {iv : Value} {tP : Nat → Int32} {tL : Nat → Option Nat} {tA tK tC tS tH : Nat → Int32} {tN tE tZ tf : Int32} {mP : Nat → Int32} {mf : Int32} {eP eT eF : Nat → Int32} {ef eg : Int32} {ew : Value} {rx gx wx : Nat → Int32} {hv : Nat → Value} {tp : Nat → Int32} {td : Int32} {rf : Nat → Int32} {rc ic : Nat → AC} {th : Nat → Int32} {pf : Int32} {nl : Nat → Option Nat} {ag lk co sh hs : Nat → Int32} {my ev se : Int32} {lc : Nat → AC} {r0 r3 : List AC} {Q : Option Value → AHp → Prop} {n : Nat} {kN : Nat → Nat} {ow : Nat → Int32}
theorem pX0_copy_bad {h2 : List AC} {p q i j z : Int32} {Q : OC → AHp → Prop} (hb : (inB p 0 7 && inB q 0 7) = false) (hQ : ∀ r3, Q (.inl (some (.int (-2)))) (r0, (xC (.ref 2) iv tP tL tA tK tC tS tH tN tE tZ tf mP mf eP eT eF ef eg ew rx gx wx hv tp td (upd rf 2 (rf 2 + 1)) rc ic), h2, r3)) : AMetX mX0_copy 3 3 810 [.ref 1, .int p, .int q, .int i, .int j, .int z] (r0, (xC (.ref 2) iv tP tL tA tK tC tS tH tN tE tZ tf mP mf eP eT eF ef eg ew rx gx wx hv tp td rf rc ic), h2, r3) Q := by
  refine AMetX.ofRch rfl (Nat.le_of_ble_eq_true rfl) ?_
  refine r_iload_n dX0_copy_0 rfl ?_
  refine r_callS (as := [_]) okX0_isShelf q375 dX0_copy_1 (Nat.le_of_ble_eq_true rfl) rfl (Nat.le_of_ble_eq_true rfl) (Nat.le_of_ble_eq_true rfl) (Nat.le_of_ble_eq_true rfl) (pX0_isShelf ?_)
  refine r_if_eq 14 dX0_copy_4 (by decide) (fun c_4 => ?_) (fun c_4 => ?_)
  · refine r_aload_n dX0_copy_14 rfl ?_
    refine r_bipush (-2) dX0_copy_15 (by decide) ?_
    refine r_callV (as := [_]) okX0_no bX0 rfl rfl q381 dX0_copy_17 (Nat.le_of_ble_eq_true rfl) rfl (Nat.le_of_ble_eq_true rfl) (Nat.le_of_ble_eq_true rfl) (Nat.le_of_ble_eq_true rfl) (pX0_no 2 (by decide) (by decide) ?_)
    exact r_iret dX0_copy_20 rfl (Nat.le_of_ble_eq_true rfl) (Nat.le_of_ble_eq_true rfl) (hQ _)
  · refine r_iload_n dX0_copy_7 rfl ?_
    refine r_callS (as := [_]) okX0_isShelf q375 dX0_copy_8 (Nat.le_of_ble_eq_true rfl) rfl (Nat.le_of_ble_eq_true rfl) (Nat.le_of_ble_eq_true rfl) (Nat.le_of_ble_eq_true rfl) (pX0_isShelf ?_)
    refine r_if_ne 21 dX0_copy_11 (by decide) (fun c_11 => ?_) (fun c_11 => ?_)
    · exfalso
      rw [b2i_n.mp c_4, b2i_n.mp c_11] at hb
      cases hb
    · refine r_aload_n dX0_copy_14 rfl ?_
      refine r_bipush (-2) dX0_copy_15 (by decide) ?_
      refine r_callV (as := [_]) okX0_no bX0 rfl rfl q381 dX0_copy_17 (Nat.le_of_ble_eq_true rfl) rfl (Nat.le_of_ble_eq_true rfl) (Nat.le_of_ble_eq_true rfl) (Nat.le_of_ble_eq_true rfl) (pX0_no 2 (by decide) (by decide) ?_)
      exact r_iret dX0_copy_20 rfl (Nat.le_of_ble_eq_true rfl) (Nat.le_of_ble_eq_true rfl) (hQ _)
/-- the source is a looker -/
theorem pX0_copy_l1 {h2 : List AC} {p q : Nat} {i j z : Int32} {Q : OC → AHp → Prop} {a c : Nat} {fs : List Value} (hp : p < 8) (hq : q < 8) (e1 : hv p = .ref a) (e2 : hv q = .null ∨ ∃ b, hv q = .ref b) (hc : c < 6) (hg : aGet (r0, (xC (.ref 2) iv tP tL tA tK tC tS tH tN tE tZ tf mP mf eP eT eF ef eg ew rx gx wx hv tp td rf rc ic), h2, r3) a = some (.inr (7 + c, fs))) (hQ : ∀ r3, Q (.inl (some (.int (-3)))) (r0, (xC (.ref 2) iv tP tL tA tK tC tS tH tN tE tZ tf mP mf eP eT eF ef eg ew rx gx wx hv tp td (upd rf 3 (rf 3 + 1)) rc ic), h2, r3)) : AMetX mX0_copy 3 3 810 [.ref 1, .int (nI p), .int (nI q), .int i, .int j, .int z] (r0, (xC (.ref 2) iv tP tL tA tK tC tS tH tN tE tZ tf mP mf eP eT eF ef eg ew rx gx wx hv tp td rf rc ic), h2, r3) Q := by
  refine AMetX.ofRch rfl (Nat.le_of_ble_eq_true rfl) ?_
  rcases e2 with e2 | ⟨b, e2⟩
  · refine r_iload_n dX0_copy_0 rfl ?_
    refine r_callS (as := [_]) okX0_isShelf q375 dX0_copy_1 (Nat.le_of_ble_eq_true rfl) rfl (Nat.le_of_ble_eq_true rfl) (Nat.le_of_ble_eq_true rfl) (Nat.le_of_ble_eq_true rfl) (pX0_isShelf ?_)
    refine r_if_eq 14 dX0_copy_4 (by decide) (fun c_ => absurd c_ (in8 hp)) (fun _ => ?_)
    refine r_iload_n dX0_copy_7 rfl ?_
    refine r_callS (as := [_]) okX0_isShelf q375 dX0_copy_8 (Nat.le_of_ble_eq_true rfl) rfl (Nat.le_of_ble_eq_true rfl) (Nat.le_of_ble_eq_true rfl) (Nat.le_of_ble_eq_true rfl) (pX0_isShelf ?_)
    refine r_if_ne 21 dX0_copy_11 (by decide) (fun _ => ?_) (fun c_ => absurd c_ (in8 hq))
    refine r_aload_n dX0_copy_21 rfl ?_
    refine r_get bX0 8 (by decide) q254 dX0_copy_22 rfl rfl ?_
    refine r_iload_n dX0_copy_25 rfl ?_
    refine r_aald_sheet dX0_copy_26 rfl (vp_in_nI (by omega) (by omega)) ?_
    rw [nI_clamp (by omega)]
    refine r_get bX4 0 (by decide) q242 dX0_copy_27 (sh_at hp) rfl ?_
    rw [e1]
    refine r_astore dX0_copy_30 (Nat.le_of_ble_eq_true rfl) ?_
    refine r_aload_n dX0_copy_32 rfl ?_
    refine r_get bX0 8 (by decide) q254 dX0_copy_33 rfl rfl ?_
    refine r_iload_n dX0_copy_36 rfl ?_
    refine r_aald_sheet dX0_copy_37 rfl (vp_in_nI (by omega) (by omega)) ?_
    rw [nI_clamp (by omega)]
    refine r_get bX4 0 (by decide) q242 dX0_copy_38 (sh_at hq) rfl ?_
    rw [e2]
    refine r_astoreN dX0_copy_41 (Nat.le_of_ble_eq_true rfl) ?_
    refine r_aload dX0_copy_43 rfl ?_
    refine r_inst_lk hc hg q419 dX0_copy_45 ?_
    refine r_if_ne 59 dX0_copy_48 (by decide) (fun _ => ?_) (fun c_ => absurd c_ (by decide))
    refine r_aload_n dX0_copy_59 rfl ?_
    refine r_bipush (-3) dX0_copy_60 (by decide) ?_
    refine r_callV (as := [_]) okX0_no bX0 rfl rfl q381 dX0_copy_62 (Nat.le_of_ble_eq_true rfl) rfl (Nat.le_of_ble_eq_true rfl) (Nat.le_of_ble_eq_true rfl) (Nat.le_of_ble_eq_true rfl) (pX0_no 3 (by decide) (by decide) ?_)
    exact r_iret dX0_copy_65 rfl (Nat.le_of_ble_eq_true rfl) (Nat.le_of_ble_eq_true rfl) (hQ _)
  · refine r_iload_n dX0_copy_0 rfl ?_
    refine r_callS (as := [_]) okX0_isShelf q375 dX0_copy_1 (Nat.le_of_ble_eq_true rfl) rfl (Nat.le_of_ble_eq_true rfl) (Nat.le_of_ble_eq_true rfl) (Nat.le_of_ble_eq_true rfl) (pX0_isShelf ?_)
    refine r_if_eq 14 dX0_copy_4 (by decide) (fun c_ => absurd c_ (in8 hp)) (fun _ => ?_)
    refine r_iload_n dX0_copy_7 rfl ?_
    refine r_callS (as := [_]) okX0_isShelf q375 dX0_copy_8 (Nat.le_of_ble_eq_true rfl) rfl (Nat.le_of_ble_eq_true rfl) (Nat.le_of_ble_eq_true rfl) (Nat.le_of_ble_eq_true rfl) (pX0_isShelf ?_)
    refine r_if_ne 21 dX0_copy_11 (by decide) (fun _ => ?_) (fun c_ => absurd c_ (in8 hq))
    refine r_aload_n dX0_copy_21 rfl ?_
    refine r_get bX0 8 (by decide) q254 dX0_copy_22 rfl rfl ?_
    refine r_iload_n dX0_copy_25 rfl ?_
    refine r_aald_sheet dX0_copy_26 rfl (vp_in_nI (by omega) (by omega)) ?_
    rw [nI_clamp (by omega)]
    refine r_get bX4 0 (by decide) q242 dX0_copy_27 (sh_at hp) rfl ?_
    rw [e1]
    refine r_astore dX0_copy_30 (Nat.le_of_ble_eq_true rfl) ?_
    refine r_aload_n dX0_copy_32 rfl ?_
    refine r_get bX0 8 (by decide) q254 dX0_copy_33 rfl rfl ?_
    refine r_iload_n dX0_copy_36 rfl ?_
    refine r_aald_sheet dX0_copy_37 rfl (vp_in_nI (by omega) (by omega)) ?_
    rw [nI_clamp (by omega)]
    refine r_get bX4 0 (by decide) q242 dX0_copy_38 (sh_at hq) rfl ?_
    rw [e2]
    refine r_astore dX0_copy_41 (Nat.le_of_ble_eq_true rfl) ?_
    refine r_aload dX0_copy_43 rfl ?_
    refine r_inst_lk hc hg q419 dX0_copy_45 ?_
    refine r_if_ne 59 dX0_copy_48 (by decide) (fun _ => ?_) (fun c_ => absurd c_ (by decide))
    refine r_aload_n dX0_copy_59 rfl ?_
    refine r_bipush (-3) dX0_copy_60 (by decide) ?_
    refine r_callV (as := [_]) okX0_no bX0 rfl rfl q381 dX0_copy_62 (Nat.le_of_ble_eq_true rfl) rfl (Nat.le_of_ble_eq_true rfl) (Nat.le_of_ble_eq_true rfl) (Nat.le_of_ble_eq_true rfl) (pX0_no 3 (by decide) (by decide) ?_)
    exact r_iret dX0_copy_65 rfl (Nat.le_of_ble_eq_true rfl) (Nat.le_of_ble_eq_true rfl) (hQ _)
/-- the target is a looker -/
theorem pX0_copy_l2 {h2 : List AC} {p q : Nat} {i j z : Int32} {Q : OC → AHp → Prop} {b c : Nat} {fs : List Value} (hp : p < 8) (hq : q < 8) (e2 : hv q = .ref b) (e1 : hv p = .null ∨ ∃ a k m f, hv p = .ref a ∧ aGet (r0, (xC (.ref 2) iv tP tL tA tK tC tS tH tN tE tZ tf mP mf eP eT eF ef eg ew rx gx wx hv tp td rf rc ic), h2, r3) a = some (rwC k m f)) (hc : c < 6) (hg : aGet (r0, (xC (.ref 2) iv tP tL tA tK tC tS tH tN tE tZ tf mP mf eP eT eF ef eg ew rx gx wx hv tp td rf rc ic), h2, r3) b = some (.inr (7 + c, fs))) (hQ : ∀ r3, Q (.inl (some (.int (-3)))) (r0, (xC (.ref 2) iv tP tL tA tK tC tS tH tN tE tZ tf mP mf eP eT eF ef eg ew rx gx wx hv tp td (upd rf 3 (rf 3 + 1)) rc ic), h2, r3)) : AMetX mX0_copy 3 3 810 [.ref 1, .int (nI p), .int (nI q), .int i, .int j, .int z] (r0, (xC (.ref 2) iv tP tL tA tK tC tS tH tN tE tZ tf mP mf eP eT eF ef eg ew rx gx wx hv tp td rf rc ic), h2, r3) Q := by
  refine AMetX.ofRch rfl (Nat.le_of_ble_eq_true rfl) ?_
  rcases e1 with e1 | ⟨a, k, m, f, e1, hr⟩
  · refine r_iload_n dX0_copy_0 rfl ?_
    refine r_callS (as := [_]) okX0_isShelf q375 dX0_copy_1 (Nat.le_of_ble_eq_true rfl) rfl (Nat.le_of_ble_eq_true rfl) (Nat.le_of_ble_eq_true rfl) (Nat.le_of_ble_eq_true rfl) (pX0_isShelf ?_)
    refine r_if_eq 14 dX0_copy_4 (by decide) (fun c_ => absurd c_ (in8 hp)) (fun _ => ?_)
    refine r_iload_n dX0_copy_7 rfl ?_
    refine r_callS (as := [_]) okX0_isShelf q375 dX0_copy_8 (Nat.le_of_ble_eq_true rfl) rfl (Nat.le_of_ble_eq_true rfl) (Nat.le_of_ble_eq_true rfl) (Nat.le_of_ble_eq_true rfl) (pX0_isShelf ?_)
    refine r_if_ne 21 dX0_copy_11 (by decide) (fun _ => ?_) (fun c_ => absurd c_ (in8 hq))
    refine r_aload_n dX0_copy_21 rfl ?_
    refine r_get bX0 8 (by decide) q254 dX0_copy_22 rfl rfl ?_
    refine r_iload_n dX0_copy_25 rfl ?_
    refine r_aald_sheet dX0_copy_26 rfl (vp_in_nI (by omega) (by omega)) ?_
    rw [nI_clamp (by omega)]
    refine r_get bX4 0 (by decide) q242 dX0_copy_27 (sh_at hp) rfl ?_
    rw [e1]
    refine r_astoreN dX0_copy_30 (Nat.le_of_ble_eq_true rfl) ?_
    refine r_aload_n dX0_copy_32 rfl ?_
    refine r_get bX0 8 (by decide) q254 dX0_copy_33 rfl rfl ?_
    refine r_iload_n dX0_copy_36 rfl ?_
    refine r_aald_sheet dX0_copy_37 rfl (vp_in_nI (by omega) (by omega)) ?_
    rw [nI_clamp (by omega)]
    refine r_get bX4 0 (by decide) q242 dX0_copy_38 (sh_at hq) rfl ?_
    rw [e2]
    refine r_astore dX0_copy_41 (Nat.le_of_ble_eq_true rfl) ?_
    refine r_aloadN dX0_copy_43 rfl ?_
    refine r_inst0 dX0_copy_45 ?_
    refine r_if_ne 59 dX0_copy_48 (by decide) (fun c_ => absurd (rfl) c_) (fun _ => ?_)
    refine r_aload dX0_copy_51 rfl ?_
    refine r_inst_lk hc hg q419 dX0_copy_53 ?_
    refine r_if_eq 66 dX0_copy_56 (by decide) (fun c_ => absurd c_ (by decide)) (fun _ => ?_)
    refine r_aload_n dX0_copy_59 rfl ?_
    refine r_bipush (-3) dX0_copy_60 (by decide) ?_
    refine r_callV (as := [_]) okX0_no bX0 rfl rfl q381 dX0_copy_62 (Nat.le_of_ble_eq_true rfl) rfl (Nat.le_of_ble_eq_true rfl) (Nat.le_of_ble_eq_true rfl) (Nat.le_of_ble_eq_true rfl) (pX0_no 3 (by decide) (by decide) ?_)
    exact r_iret dX0_copy_65 rfl (Nat.le_of_ble_eq_true rfl) (Nat.le_of_ble_eq_true rfl) (hQ _)
  · refine r_iload_n dX0_copy_0 rfl ?_
    refine r_callS (as := [_]) okX0_isShelf q375 dX0_copy_1 (Nat.le_of_ble_eq_true rfl) rfl (Nat.le_of_ble_eq_true rfl) (Nat.le_of_ble_eq_true rfl) (Nat.le_of_ble_eq_true rfl) (pX0_isShelf ?_)
    refine r_if_eq 14 dX0_copy_4 (by decide) (fun c_ => absurd c_ (in8 hp)) (fun _ => ?_)
    refine r_iload_n dX0_copy_7 rfl ?_
    refine r_callS (as := [_]) okX0_isShelf q375 dX0_copy_8 (Nat.le_of_ble_eq_true rfl) rfl (Nat.le_of_ble_eq_true rfl) (Nat.le_of_ble_eq_true rfl) (Nat.le_of_ble_eq_true rfl) (pX0_isShelf ?_)
    refine r_if_ne 21 dX0_copy_11 (by decide) (fun _ => ?_) (fun c_ => absurd c_ (in8 hq))
    refine r_aload_n dX0_copy_21 rfl ?_
    refine r_get bX0 8 (by decide) q254 dX0_copy_22 rfl rfl ?_
    refine r_iload_n dX0_copy_25 rfl ?_
    refine r_aald_sheet dX0_copy_26 rfl (vp_in_nI (by omega) (by omega)) ?_
    rw [nI_clamp (by omega)]
    refine r_get bX4 0 (by decide) q242 dX0_copy_27 (sh_at hp) rfl ?_
    rw [e1]
    refine r_astore dX0_copy_30 (Nat.le_of_ble_eq_true rfl) ?_
    refine r_aload_n dX0_copy_32 rfl ?_
    refine r_get bX0 8 (by decide) q254 dX0_copy_33 rfl rfl ?_
    refine r_iload_n dX0_copy_36 rfl ?_
    refine r_aald_sheet dX0_copy_37 rfl (vp_in_nI (by omega) (by omega)) ?_
    rw [nI_clamp (by omega)]
    refine r_get bX4 0 (by decide) q242 dX0_copy_38 (sh_at hq) rfl ?_
    rw [e2]
    refine r_astore dX0_copy_41 (Nat.le_of_ble_eq_true rfl) ?_
    refine r_aload dX0_copy_43 rfl ?_
    refine r_instNo (isA_row k hr) (nc_row k) q419 dX0_copy_45 ?_
    refine r_if_ne 59 dX0_copy_48 (by decide) (fun c_ => absurd (rfl) c_) (fun _ => ?_)
    refine r_aload dX0_copy_51 rfl ?_
    refine r_inst_lk hc hg q419 dX0_copy_53 ?_
    refine r_if_eq 66 dX0_copy_56 (by decide) (fun c_ => absurd c_ (by decide)) (fun _ => ?_)
    refine r_aload_n dX0_copy_59 rfl ?_
    refine r_bipush (-3) dX0_copy_60 (by decide) ?_
    refine r_callV (as := [_]) okX0_no bX0 rfl rfl q381 dX0_copy_62 (Nat.le_of_ble_eq_true rfl) rfl (Nat.le_of_ble_eq_true rfl) (Nat.le_of_ble_eq_true rfl) (Nat.le_of_ble_eq_true rfl) (pX0_no 3 (by decide) (by decide) ?_)
    exact r_iret dX0_copy_65 rfl (Nat.le_of_ble_eq_true rfl) (Nat.le_of_ble_eq_true rfl) (hQ _)
/-- something is missing -/
theorem pX0_copy_0 {h2 : List AC} {p q : Nat} {i j z : Int32} {Q : OC → AHp → Prop} (hp : p < 8) (hq : q < 8) (hh : (hv p = .null ∧ (hv q = .null ∨ ∃ a k m f, hv q = .ref a ∧ aGet (r0, (xC (.ref 2) iv tP tL tA tK tC tS tH tN tE tZ tf mP mf eP eT eF ef eg ew rx gx wx hv tp td rf rc ic), h2, r3) a = some (rwC k m f))) ∨ (hv q = .null ∧ ∃ a k m f, hv p = .ref a ∧ aGet (r0, (xC (.ref 2) iv tP tL tA tK tC tS tH tN tE tZ tf mP mf eP eT eF ef eg ew rx gx wx hv tp td rf rc ic), h2, r3) a = some (rwC k m f))) (hQ : ∀ r3, Q (.inl (some (.int (-4)))) (r0, (xC (.ref 2) iv tP tL tA tK tC tS tH tN tE tZ tf mP mf eP eT eF ef eg ew rx gx wx hv tp td (upd rf 4 (rf 4 + 1)) rc ic), h2, r3)) : AMetX mX0_copy 3 3 810 [.ref 1, .int (nI p), .int (nI q), .int i, .int j, .int z] (r0, (xC (.ref 2) iv tP tL tA tK tC tS tH tN tE tZ tf mP mf eP eT eF ef eg ew rx gx wx hv tp td rf rc ic), h2, r3) Q := by
  refine AMetX.ofRch rfl (Nat.le_of_ble_eq_true rfl) ?_
  rcases hh with ⟨e1, e2 | ⟨a, k, m, f, e2, hr⟩⟩ | ⟨e2, a, k, m, f, e1, hr⟩
  · refine r_iload_n dX0_copy_0 rfl ?_
    refine r_callS (as := [_]) okX0_isShelf q375 dX0_copy_1 (Nat.le_of_ble_eq_true rfl) rfl (Nat.le_of_ble_eq_true rfl) (Nat.le_of_ble_eq_true rfl) (Nat.le_of_ble_eq_true rfl) (pX0_isShelf ?_)
    refine r_if_eq 14 dX0_copy_4 (by decide) (fun c_ => absurd c_ (in8 hp)) (fun _ => ?_)
    refine r_iload_n dX0_copy_7 rfl ?_
    refine r_callS (as := [_]) okX0_isShelf q375 dX0_copy_8 (Nat.le_of_ble_eq_true rfl) rfl (Nat.le_of_ble_eq_true rfl) (Nat.le_of_ble_eq_true rfl) (Nat.le_of_ble_eq_true rfl) (pX0_isShelf ?_)
    refine r_if_ne 21 dX0_copy_11 (by decide) (fun _ => ?_) (fun c_ => absurd c_ (in8 hq))
    refine r_aload_n dX0_copy_21 rfl ?_
    refine r_get bX0 8 (by decide) q254 dX0_copy_22 rfl rfl ?_
    refine r_iload_n dX0_copy_25 rfl ?_
    refine r_aald_sheet dX0_copy_26 rfl (vp_in_nI (by omega) (by omega)) ?_
    rw [nI_clamp (by omega)]
    refine r_get bX4 0 (by decide) q242 dX0_copy_27 (sh_at hp) rfl ?_
    rw [e1]
    refine r_astoreN dX0_copy_30 (Nat.le_of_ble_eq_true rfl) ?_
    refine r_aload_n dX0_copy_32 rfl ?_
    refine r_get bX0 8 (by decide) q254 dX0_copy_33 rfl rfl ?_
    refine r_iload_n dX0_copy_36 rfl ?_
    refine r_aald_sheet dX0_copy_37 rfl (vp_in_nI (by omega) (by omega)) ?_
    rw [nI_clamp (by omega)]
    refine r_get bX4 0 (by decide) q242 dX0_copy_38 (sh_at hq) rfl ?_
    rw [e2]
    refine r_astoreN dX0_copy_41 (Nat.le_of_ble_eq_true rfl) ?_
    refine r_aloadN dX0_copy_43 rfl ?_
    refine r_inst0 dX0_copy_45 ?_
    refine r_if_ne 59 dX0_copy_48 (by decide) (fun c_ => absurd (rfl) c_) (fun _ => ?_)
    refine r_aloadN dX0_copy_51 rfl ?_
    refine r_inst0 dX0_copy_53 ?_
    refine r_if_eq 66 dX0_copy_56 (by decide) (fun _ => ?_) (fun c_ => absurd (rfl) c_)
    refine r_aloadN dX0_copy_66 rfl ?_
    refine r_iload_n dX0_copy_68 rfl ?_
    refine r_aloadN dX0_copy_69 rfl ?_
    refine r_iload dX0_copy_71 rfl ?_
    refine r_iload dX0_copy_73 rfl ?_
    refine r_cpNpe q501 dX0_copy_75 (Nat.le_of_ble_eq_true rfl) (Or.inr rfl) (Or.inr rfl) (Or.inl rfl) (Nat.le_of_ble_eq_true rfl) (Nat.le_of_ble_eq_true rfl) (rt_catch (hp := 81) (fun G hG => srY (by decide) (by decide) q461 q483) ?_)
    refine r_astore dX0_copy_81 (Nat.le_of_ble_eq_true rfl) ?_
    refine r_aload_n dX0_copy_83 rfl ?_
    refine r_bipush (-4) dX0_copy_84 (by decide) ?_
    refine r_callV (as := [_]) okX0_no bX0 rfl rfl q381 dX0_copy_86 (Nat.le_of_ble_eq_true rfl) rfl (Nat.le_of_ble_eq_true rfl) (Nat.le_of_ble_eq_true rfl) (Nat.le_of_ble_eq_true rfl) (pX0_no 4 (by decide) (by decide) ?_)
    exact r_iret dX0_copy_89 rfl (Nat.le_of_ble_eq_true rfl) (Nat.le_of_ble_eq_true rfl) (hQ _)
  · refine r_iload_n dX0_copy_0 rfl ?_
    refine r_callS (as := [_]) okX0_isShelf q375 dX0_copy_1 (Nat.le_of_ble_eq_true rfl) rfl (Nat.le_of_ble_eq_true rfl) (Nat.le_of_ble_eq_true rfl) (Nat.le_of_ble_eq_true rfl) (pX0_isShelf ?_)
    refine r_if_eq 14 dX0_copy_4 (by decide) (fun c_ => absurd c_ (in8 hp)) (fun _ => ?_)
    refine r_iload_n dX0_copy_7 rfl ?_
    refine r_callS (as := [_]) okX0_isShelf q375 dX0_copy_8 (Nat.le_of_ble_eq_true rfl) rfl (Nat.le_of_ble_eq_true rfl) (Nat.le_of_ble_eq_true rfl) (Nat.le_of_ble_eq_true rfl) (pX0_isShelf ?_)
    refine r_if_ne 21 dX0_copy_11 (by decide) (fun _ => ?_) (fun c_ => absurd c_ (in8 hq))
    refine r_aload_n dX0_copy_21 rfl ?_
    refine r_get bX0 8 (by decide) q254 dX0_copy_22 rfl rfl ?_
    refine r_iload_n dX0_copy_25 rfl ?_
    refine r_aald_sheet dX0_copy_26 rfl (vp_in_nI (by omega) (by omega)) ?_
    rw [nI_clamp (by omega)]
    refine r_get bX4 0 (by decide) q242 dX0_copy_27 (sh_at hp) rfl ?_
    rw [e1]
    refine r_astoreN dX0_copy_30 (Nat.le_of_ble_eq_true rfl) ?_
    refine r_aload_n dX0_copy_32 rfl ?_
    refine r_get bX0 8 (by decide) q254 dX0_copy_33 rfl rfl ?_
    refine r_iload_n dX0_copy_36 rfl ?_
    refine r_aald_sheet dX0_copy_37 rfl (vp_in_nI (by omega) (by omega)) ?_
    rw [nI_clamp (by omega)]
    refine r_get bX4 0 (by decide) q242 dX0_copy_38 (sh_at hq) rfl ?_
    rw [e2]
    refine r_astore dX0_copy_41 (Nat.le_of_ble_eq_true rfl) ?_
    refine r_aloadN dX0_copy_43 rfl ?_
    refine r_inst0 dX0_copy_45 ?_
    refine r_if_ne 59 dX0_copy_48 (by decide) (fun c_ => absurd (rfl) c_) (fun _ => ?_)
    refine r_aload dX0_copy_51 rfl ?_
    refine r_instNo (isA_row k hr) (nc_row k) q419 dX0_copy_53 ?_
    refine r_if_eq 66 dX0_copy_56 (by decide) (fun _ => ?_) (fun c_ => absurd (rfl) c_)
    refine r_aloadN dX0_copy_66 rfl ?_
    refine r_iload_n dX0_copy_68 rfl ?_
    refine r_aload dX0_copy_69 rfl ?_
    refine r_iload dX0_copy_71 rfl ?_
    refine r_iload dX0_copy_73 rfl ?_
    refine r_cpNpe q501 dX0_copy_75 (Nat.le_of_ble_eq_true rfl) (Or.inr rfl) (Or.inl rfl) (Or.inl rfl) (Nat.le_of_ble_eq_true rfl) (Nat.le_of_ble_eq_true rfl) (rt_catch (hp := 81) (fun G hG => srY (by decide) (by decide) q461 q483) ?_)
    refine r_astore dX0_copy_81 (Nat.le_of_ble_eq_true rfl) ?_
    refine r_aload_n dX0_copy_83 rfl ?_
    refine r_bipush (-4) dX0_copy_84 (by decide) ?_
    refine r_callV (as := [_]) okX0_no bX0 rfl rfl q381 dX0_copy_86 (Nat.le_of_ble_eq_true rfl) rfl (Nat.le_of_ble_eq_true rfl) (Nat.le_of_ble_eq_true rfl) (Nat.le_of_ble_eq_true rfl) (pX0_no 4 (by decide) (by decide) ?_)
    exact r_iret dX0_copy_89 rfl (Nat.le_of_ble_eq_true rfl) (Nat.le_of_ble_eq_true rfl) (hQ _)
  · refine r_iload_n dX0_copy_0 rfl ?_
    refine r_callS (as := [_]) okX0_isShelf q375 dX0_copy_1 (Nat.le_of_ble_eq_true rfl) rfl (Nat.le_of_ble_eq_true rfl) (Nat.le_of_ble_eq_true rfl) (Nat.le_of_ble_eq_true rfl) (pX0_isShelf ?_)
    refine r_if_eq 14 dX0_copy_4 (by decide) (fun c_ => absurd c_ (in8 hp)) (fun _ => ?_)
    refine r_iload_n dX0_copy_7 rfl ?_
    refine r_callS (as := [_]) okX0_isShelf q375 dX0_copy_8 (Nat.le_of_ble_eq_true rfl) rfl (Nat.le_of_ble_eq_true rfl) (Nat.le_of_ble_eq_true rfl) (Nat.le_of_ble_eq_true rfl) (pX0_isShelf ?_)
    refine r_if_ne 21 dX0_copy_11 (by decide) (fun _ => ?_) (fun c_ => absurd c_ (in8 hq))
    refine r_aload_n dX0_copy_21 rfl ?_
    refine r_get bX0 8 (by decide) q254 dX0_copy_22 rfl rfl ?_
    refine r_iload_n dX0_copy_25 rfl ?_
    refine r_aald_sheet dX0_copy_26 rfl (vp_in_nI (by omega) (by omega)) ?_
    rw [nI_clamp (by omega)]
    refine r_get bX4 0 (by decide) q242 dX0_copy_27 (sh_at hp) rfl ?_
    rw [e1]
    refine r_astore dX0_copy_30 (Nat.le_of_ble_eq_true rfl) ?_
    refine r_aload_n dX0_copy_32 rfl ?_
    refine r_get bX0 8 (by decide) q254 dX0_copy_33 rfl rfl ?_
    refine r_iload_n dX0_copy_36 rfl ?_
    refine r_aald_sheet dX0_copy_37 rfl (vp_in_nI (by omega) (by omega)) ?_
    rw [nI_clamp (by omega)]
    refine r_get bX4 0 (by decide) q242 dX0_copy_38 (sh_at hq) rfl ?_
    rw [e2]
    refine r_astoreN dX0_copy_41 (Nat.le_of_ble_eq_true rfl) ?_
    refine r_aload dX0_copy_43 rfl ?_
    refine r_instNo (isA_row k hr) (nc_row k) q419 dX0_copy_45 ?_
    refine r_if_ne 59 dX0_copy_48 (by decide) (fun c_ => absurd (rfl) c_) (fun _ => ?_)
    refine r_aloadN dX0_copy_51 rfl ?_
    refine r_inst0 dX0_copy_53 ?_
    refine r_if_eq 66 dX0_copy_56 (by decide) (fun _ => ?_) (fun c_ => absurd (rfl) c_)
    refine r_aload dX0_copy_66 rfl ?_
    refine r_iload_n dX0_copy_68 rfl ?_
    refine r_aloadN dX0_copy_69 rfl ?_
    refine r_iload dX0_copy_71 rfl ?_
    refine r_iload dX0_copy_73 rfl ?_
    refine r_cpNpe q501 dX0_copy_75 (Nat.le_of_ble_eq_true rfl) (Or.inl rfl) (Or.inr rfl) (Or.inr rfl) (Nat.le_of_ble_eq_true rfl) (Nat.le_of_ble_eq_true rfl) (rt_catch (hp := 81) (fun G hG => srY (by decide) (by decide) q461 q483) ?_)
    refine r_astore dX0_copy_81 (Nat.le_of_ble_eq_true rfl) ?_
    refine r_aload_n dX0_copy_83 rfl ?_
    refine r_bipush (-4) dX0_copy_84 (by decide) ?_
    refine r_callV (as := [_]) okX0_no bX0 rfl rfl q381 dX0_copy_86 (Nat.le_of_ble_eq_true rfl) rfl (Nat.le_of_ble_eq_true rfl) (Nat.le_of_ble_eq_true rfl) (Nat.le_of_ble_eq_true rfl) (pX0_no 4 (by decide) (by decide) ?_)
    exact r_iret dX0_copy_89 rfl (Nat.le_of_ble_eq_true rfl) (Nat.le_of_ble_eq_true rfl) (hQ _)
/-- rows of two sorts -/
theorem pX0_copy_t {h2 : List AC} {p q : Nat} {i j z : Int32} {Q : OC → AHp → Prop} {a b k k2 m m2 : Nat} {f g : Nat → Int64} (hp : p < 8) (hq : q < 8) (e1 : hv p = .ref a) (e2 : hv q = .ref b) (hk : k < 5) (hk2 : k2 < 5) (hne : k ≠ k2) (hg : aGet (r0, (xC (.ref 2) iv tP tL tA tK tC tS tH tN tE tZ tf mP mf eP eT eF ef eg ew rx gx wx hv tp td rf rc ic), h2, r3) a = some (rwC k m f)) (hg2 : aGet (r0, (xC (.ref 2) iv tP tL tA tK tC tS tH tN tE tZ tf mP mf eP eT eF ef eg ew rx gx wx hv tp td rf rc ic), h2, r3) b = some (rwC k2 m2 g)) (hQ : ∀ r3, Q (.inl (some (.int (-3)))) (r0, (xC (.ref 2) iv tP tL tA tK tC tS tH tN tE tZ tf mP mf eP eT eF ef eg ew rx gx wx hv tp td (upd rf 3 (rf 3 + 1)) rc ic), h2, r3)) : AMetX mX0_copy 3 3 810 [.ref 1, .int (nI p), .int (nI q), .int i, .int j, .int z] (r0, (xC (.ref 2) iv tP tL tA tK tC tS tH tN tE tZ tf mP mf eP eT eF ef eg ew rx gx wx hv tp td rf rc ic), h2, r3) Q := by
  refine AMetX.ofRch rfl (Nat.le_of_ble_eq_true rfl) ?_
  refine r_iload_n dX0_copy_0 rfl ?_
  refine r_callS (as := [_]) okX0_isShelf q375 dX0_copy_1 (Nat.le_of_ble_eq_true rfl) rfl (Nat.le_of_ble_eq_true rfl) (Nat.le_of_ble_eq_true rfl) (Nat.le_of_ble_eq_true rfl) (pX0_isShelf ?_)
  refine r_if_eq 14 dX0_copy_4 (by decide) (fun c_ => absurd c_ (in8 hp)) (fun _ => ?_)
  refine r_iload_n dX0_copy_7 rfl ?_
  refine r_callS (as := [_]) okX0_isShelf q375 dX0_copy_8 (Nat.le_of_ble_eq_true rfl) rfl (Nat.le_of_ble_eq_true rfl) (Nat.le_of_ble_eq_true rfl) (Nat.le_of_ble_eq_true rfl) (pX0_isShelf ?_)
  refine r_if_ne 21 dX0_copy_11 (by decide) (fun _ => ?_) (fun c_ => absurd c_ (in8 hq))
  refine r_aload_n dX0_copy_21 rfl ?_
  refine r_get bX0 8 (by decide) q254 dX0_copy_22 rfl rfl ?_
  refine r_iload_n dX0_copy_25 rfl ?_
  refine r_aald_sheet dX0_copy_26 rfl (vp_in_nI (by omega) (by omega)) ?_
  rw [nI_clamp (by omega)]
  refine r_get bX4 0 (by decide) q242 dX0_copy_27 (sh_at hp) rfl ?_
  rw [e1]
  refine r_astore dX0_copy_30 (Nat.le_of_ble_eq_true rfl) ?_
  refine r_aload_n dX0_copy_32 rfl ?_
  refine r_get bX0 8 (by decide) q254 dX0_copy_33 rfl rfl ?_
  refine r_iload_n dX0_copy_36 rfl ?_
  refine r_aald_sheet dX0_copy_37 rfl (vp_in_nI (by omega) (by omega)) ?_
  rw [nI_clamp (by omega)]
  refine r_get bX4 0 (by decide) q242 dX0_copy_38 (sh_at hq) rfl ?_
  rw [e2]
  refine r_astore dX0_copy_41 (Nat.le_of_ble_eq_true rfl) ?_
  refine r_aload dX0_copy_43 rfl ?_
  refine r_instNo (isA_row k hg) (nc_row k) q419 dX0_copy_45 ?_
  refine r_if_ne 59 dX0_copy_48 (by decide) (fun c_ => absurd (rfl) c_) (fun _ => ?_)
  refine r_aload dX0_copy_51 rfl ?_
  refine r_instNo (isA_row k2 hg2) (nc_row k2) q419 dX0_copy_53 ?_
  refine r_if_eq 66 dX0_copy_56 (by decide) (fun _ => ?_) (fun c_ => absurd (rfl) c_)
  refine r_aload dX0_copy_66 rfl ?_
  refine r_iload_n dX0_copy_68 rfl ?_
  refine r_aload dX0_copy_69 rfl ?_
  refine r_iload dX0_copy_71 rfl ?_
  refine r_iload dX0_copy_73 rfl ?_
  refine r_cpMsg vx_ase q501 dX0_copy_75 (Nat.le_of_ble_eq_true rfl) (Nat.le_of_ble_eq_true rfl) (Nat.le_of_ble_eq_true rfl) (thr_types hk hk2 hne hg hg2) (rt_catch (hp := 90) (fun G hG => srN hG (by decide) (by decide) q461 nc_ArrayStore_NullPointer (srY (by decide) (by decide) q486 q498)) ?_)
  refine r_astore dX0_copy_90 (Nat.le_of_ble_eq_true rfl) ?_
  refine r_aload_n dX0_copy_92 rfl ?_
  refine r_bipush (-3) dX0_copy_93 (by decide) ?_
  refine r_callV (as := [_]) okX0_no bX0 rfl rfl q381 dX0_copy_95 (Nat.le_of_ble_eq_true rfl) rfl (Nat.le_of_ble_eq_true rfl) (Nat.le_of_ble_eq_true rfl) (Nat.le_of_ble_eq_true rfl) (pX0_no 3 (by decide) (by decide) ?_)
  exact r_iret dX0_copy_98 rfl (Nat.le_of_ble_eq_true rfl) (Nat.le_of_ble_eq_true rfl) (hQ _)
theorem cpy_i (f g : Nat → Int64) (I J N : Nat) : va_cpy (fun q => (f q).toInt32) (fun q => (g q).toInt32) I J N = fun q => (va_cpy f g I J N q).toInt32 := by
  funext q
  unfold va_cpy
  split <;> rfl
/-- rows of one sort -/
theorem pX0_copy_r {h2 : List AC} {p q : Nat} {i j z : Int32} {Q : OC → AHp → Prop} {a b k m m2 : Nat} {f g : Nat → Int64} (hp : p < 8) (hq : q < 8) (e1 : hv p = .ref a) (e2 : hv q = .ref b) (hk : k < 5) (h1 : m ≤ 40) (h2' : m2 ≤ 40) (hg : aGet (r0, (xC (.ref 2) iv tP tL tA tK tC tS tH tN tE tZ tf mP mf eP eT eF ef eg ew rx gx wx hv tp td rf rc ic), h2, r3) a = some (rwC k m f)) (hg2 : aGet (r0, (xC (.ref 2) iv tP tL tA tK tC tS tH tN tE tZ tf mP mf eP eT eF ef eg ew rx gx wx hv tp td rf rc ic), h2, r3) b = some (rwC k m2 g)) (hke : ∀ q, q < m → keF k (f q) = f q) (hQ : ∀ I J N : Nat, i = nI I → j = nI J → z = nI N → I + N ≤ m → J + N ≤ m2 → Q (.inl (some (.int z))) (aSet (r0, (xC (.ref 2) iv tP tL tA tK tC tS tH tN tE tZ tf mP mf eP eT eF ef eg ew rx gx wx hv tp td rf rc ic), h2, r3) b (rwC k m2 (va_cpy f g I J N)))) (hN : (∀ I J N : Nat, i = nI I → j = nI J → z = nI N → I + N ≤ m → ¬ J + N ≤ m2) → ∀ r3, Q (.inl (some (.int (-2)))) (r0, (xC (.ref 2) iv tP tL tA tK tC tS tH tN tE tZ tf mP mf eP eT eF ef eg ew rx gx wx hv tp td (upd rf 2 (rf 2 + 1)) rc ic), h2, r3)) : AMetX mX0_copy 3 3 810 [.ref 1, .int (nI p), .int (nI q), .int i, .int j, .int z] (r0, (xC (.ref 2) iv tP tL tA tK tC tS tH tN tE tZ tf mP mf eP eT eF ef eg ew rx gx wx hv tp td rf rc ic), h2, r3) Q := by
  refine AMetX.ofRch rfl (Nat.le_of_ble_eq_true rfl) ?_
  by_cases hin : ∃ I J N : Nat, i = nI I ∧ j = nI J ∧ z = nI N ∧ I + N ≤ m ∧ J + N ≤ m2
  · obtain ⟨I, J, N, rfl, rfl, rfl, l1, l2⟩ := hin
    have hq2 := hQ I J N rfl rfl rfl l1 l2
    have c1 : (nI I).toNatClampNeg = I := nI_clamp (by omega)
    have c2 : (nI J).toNatClampNeg = J := nI_clamp (by omega)
    have c3 : (nI N).toNatClampNeg = N := nI_clamp (by omega)
    have d1 : ¬ nI I < 0 := nI_pos (by omega)
    have d2 : ¬ nI J < 0 := nI_pos (by omega)
    have d3 : ¬ nI N < 0 := nI_pos (by omega)
    have b1 : (nI I).toNatClampNeg + (nI N).toNatClampNeg ≤ m := by rw [c1, c3]; exact l1
    have b2 : (nI J).toNatClampNeg + (nI N).toNatClampNeg ≤ m2 := by rw [c2, c3]; exact l2
    rcases k5 hk with rfl | rfl | rfl | rfl | rfl
    · refine r_iload_n dX0_copy_0 rfl ?_
      refine r_callS (as := [_]) okX0_isShelf q375 dX0_copy_1 (Nat.le_of_ble_eq_true rfl) rfl (Nat.le_of_ble_eq_true rfl) (Nat.le_of_ble_eq_true rfl) (Nat.le_of_ble_eq_true rfl) (pX0_isShelf ?_)
      refine r_if_eq 14 dX0_copy_4 (by decide) (fun c_ => absurd c_ (in8 hp)) (fun _ => ?_)
      refine r_iload_n dX0_copy_7 rfl ?_
      refine r_callS (as := [_]) okX0_isShelf q375 dX0_copy_8 (Nat.le_of_ble_eq_true rfl) rfl (Nat.le_of_ble_eq_true rfl) (Nat.le_of_ble_eq_true rfl) (Nat.le_of_ble_eq_true rfl) (pX0_isShelf ?_)
      refine r_if_ne 21 dX0_copy_11 (by decide) (fun _ => ?_) (fun c_ => absurd c_ (in8 hq))
      refine r_aload_n dX0_copy_21 rfl ?_
      refine r_get bX0 8 (by decide) q254 dX0_copy_22 rfl rfl ?_
      refine r_iload_n dX0_copy_25 rfl ?_
      refine r_aald_sheet dX0_copy_26 rfl (vp_in_nI (by omega) (by omega)) ?_
      rw [nI_clamp (by omega)]
      refine r_get bX4 0 (by decide) q242 dX0_copy_27 (sh_at hp) rfl ?_
      rw [e1]
      refine r_astore dX0_copy_30 (Nat.le_of_ble_eq_true rfl) ?_
      refine r_aload_n dX0_copy_32 rfl ?_
      refine r_get bX0 8 (by decide) q254 dX0_copy_33 rfl rfl ?_
      refine r_iload_n dX0_copy_36 rfl ?_
      refine r_aald_sheet dX0_copy_37 rfl (vp_in_nI (by omega) (by omega)) ?_
      rw [nI_clamp (by omega)]
      refine r_get bX4 0 (by decide) q242 dX0_copy_38 (sh_at hq) rfl ?_
      rw [e2]
      refine r_astore dX0_copy_41 (Nat.le_of_ble_eq_true rfl) ?_
      refine r_aload dX0_copy_43 rfl ?_
      refine r_instNo (isA_row 0 hg) (nc_row 0) q419 dX0_copy_45 ?_
      refine r_if_ne 59 dX0_copy_48 (by decide) (fun c_ => absurd (rfl) c_) (fun _ => ?_)
      refine r_aload dX0_copy_51 rfl ?_
      refine r_instNo (isA_row 0 hg2) (nc_row 0) q419 dX0_copy_53 ?_
      refine r_if_eq 66 dX0_copy_56 (by decide) (fun _ => ?_) (fun c_ => absurd (rfl) c_)
      refine r_aload dX0_copy_66 rfl ?_
      refine r_iload_n dX0_copy_68 rfl ?_
      refine r_aload dX0_copy_69 rfl ?_
      refine r_iload dX0_copy_71 rfl ?_
      refine r_iload dX0_copy_73 rfl ?_
      refine r_copyi 2 rfl rfl q501 dX0_copy_75 hg hg2 d1 d2 d3 b1 b2 (fun t ht => fit_b (hke _ (by omega))) (Nat.le_of_ble_eq_true rfl) ?_
      rw [c1, c2, c3, cpy_i]
      refine r_iload dX0_copy_78 rfl ?_
      exact r_iret dX0_copy_80 rfl (Nat.le_of_ble_eq_true rfl) (Nat.le_of_ble_eq_true rfl) (hq2)
    · refine r_iload_n dX0_copy_0 rfl ?_
      refine r_callS (as := [_]) okX0_isShelf q375 dX0_copy_1 (Nat.le_of_ble_eq_true rfl) rfl (Nat.le_of_ble_eq_true rfl) (Nat.le_of_ble_eq_true rfl) (Nat.le_of_ble_eq_true rfl) (pX0_isShelf ?_)
      refine r_if_eq 14 dX0_copy_4 (by decide) (fun c_ => absurd c_ (in8 hp)) (fun _ => ?_)
      refine r_iload_n dX0_copy_7 rfl ?_
      refine r_callS (as := [_]) okX0_isShelf q375 dX0_copy_8 (Nat.le_of_ble_eq_true rfl) rfl (Nat.le_of_ble_eq_true rfl) (Nat.le_of_ble_eq_true rfl) (Nat.le_of_ble_eq_true rfl) (pX0_isShelf ?_)
      refine r_if_ne 21 dX0_copy_11 (by decide) (fun _ => ?_) (fun c_ => absurd c_ (in8 hq))
      refine r_aload_n dX0_copy_21 rfl ?_
      refine r_get bX0 8 (by decide) q254 dX0_copy_22 rfl rfl ?_
      refine r_iload_n dX0_copy_25 rfl ?_
      refine r_aald_sheet dX0_copy_26 rfl (vp_in_nI (by omega) (by omega)) ?_
      rw [nI_clamp (by omega)]
      refine r_get bX4 0 (by decide) q242 dX0_copy_27 (sh_at hp) rfl ?_
      rw [e1]
      refine r_astore dX0_copy_30 (Nat.le_of_ble_eq_true rfl) ?_
      refine r_aload_n dX0_copy_32 rfl ?_
      refine r_get bX0 8 (by decide) q254 dX0_copy_33 rfl rfl ?_
      refine r_iload_n dX0_copy_36 rfl ?_
      refine r_aald_sheet dX0_copy_37 rfl (vp_in_nI (by omega) (by omega)) ?_
      rw [nI_clamp (by omega)]
      refine r_get bX4 0 (by decide) q242 dX0_copy_38 (sh_at hq) rfl ?_
      rw [e2]
      refine r_astore dX0_copy_41 (Nat.le_of_ble_eq_true rfl) ?_
      refine r_aload dX0_copy_43 rfl ?_
      refine r_instNo (isA_row 1 hg) (nc_row 1) q419 dX0_copy_45 ?_
      refine r_if_ne 59 dX0_copy_48 (by decide) (fun c_ => absurd (rfl) c_) (fun _ => ?_)
      refine r_aload dX0_copy_51 rfl ?_
      refine r_instNo (isA_row 1 hg2) (nc_row 1) q419 dX0_copy_53 ?_
      refine r_if_eq 66 dX0_copy_56 (by decide) (fun _ => ?_) (fun c_ => absurd (rfl) c_)
      refine r_aload dX0_copy_66 rfl ?_
      refine r_iload_n dX0_copy_68 rfl ?_
      refine r_aload dX0_copy_69 rfl ?_
      refine r_iload dX0_copy_71 rfl ?_
      refine r_iload dX0_copy_73 rfl ?_
      refine r_copyi 3 rfl rfl q501 dX0_copy_75 hg hg2 d1 d2 d3 b1 b2 (fun t ht => fit_s (hke _ (by omega))) (Nat.le_of_ble_eq_true rfl) ?_
      rw [c1, c2, c3, cpy_i]
      refine r_iload dX0_copy_78 rfl ?_
      exact r_iret dX0_copy_80 rfl (Nat.le_of_ble_eq_true rfl) (Nat.le_of_ble_eq_true rfl) (hq2)
    · refine r_iload_n dX0_copy_0 rfl ?_
      refine r_callS (as := [_]) okX0_isShelf q375 dX0_copy_1 (Nat.le_of_ble_eq_true rfl) rfl (Nat.le_of_ble_eq_true rfl) (Nat.le_of_ble_eq_true rfl) (Nat.le_of_ble_eq_true rfl) (pX0_isShelf ?_)
      refine r_if_eq 14 dX0_copy_4 (by decide) (fun c_ => absurd c_ (in8 hp)) (fun _ => ?_)
      refine r_iload_n dX0_copy_7 rfl ?_
      refine r_callS (as := [_]) okX0_isShelf q375 dX0_copy_8 (Nat.le_of_ble_eq_true rfl) rfl (Nat.le_of_ble_eq_true rfl) (Nat.le_of_ble_eq_true rfl) (Nat.le_of_ble_eq_true rfl) (pX0_isShelf ?_)
      refine r_if_ne 21 dX0_copy_11 (by decide) (fun _ => ?_) (fun c_ => absurd c_ (in8 hq))
      refine r_aload_n dX0_copy_21 rfl ?_
      refine r_get bX0 8 (by decide) q254 dX0_copy_22 rfl rfl ?_
      refine r_iload_n dX0_copy_25 rfl ?_
      refine r_aald_sheet dX0_copy_26 rfl (vp_in_nI (by omega) (by omega)) ?_
      rw [nI_clamp (by omega)]
      refine r_get bX4 0 (by decide) q242 dX0_copy_27 (sh_at hp) rfl ?_
      rw [e1]
      refine r_astore dX0_copy_30 (Nat.le_of_ble_eq_true rfl) ?_
      refine r_aload_n dX0_copy_32 rfl ?_
      refine r_get bX0 8 (by decide) q254 dX0_copy_33 rfl rfl ?_
      refine r_iload_n dX0_copy_36 rfl ?_
      refine r_aald_sheet dX0_copy_37 rfl (vp_in_nI (by omega) (by omega)) ?_
      rw [nI_clamp (by omega)]
      refine r_get bX4 0 (by decide) q242 dX0_copy_38 (sh_at hq) rfl ?_
      rw [e2]
      refine r_astore dX0_copy_41 (Nat.le_of_ble_eq_true rfl) ?_
      refine r_aload dX0_copy_43 rfl ?_
      refine r_instNo (isA_row 2 hg) (nc_row 2) q419 dX0_copy_45 ?_
      refine r_if_ne 59 dX0_copy_48 (by decide) (fun c_ => absurd (rfl) c_) (fun _ => ?_)
      refine r_aload dX0_copy_51 rfl ?_
      refine r_instNo (isA_row 2 hg2) (nc_row 2) q419 dX0_copy_53 ?_
      refine r_if_eq 66 dX0_copy_56 (by decide) (fun _ => ?_) (fun c_ => absurd (rfl) c_)
      refine r_aload dX0_copy_66 rfl ?_
      refine r_iload_n dX0_copy_68 rfl ?_
      refine r_aload dX0_copy_69 rfl ?_
      refine r_iload dX0_copy_71 rfl ?_
      refine r_iload dX0_copy_73 rfl ?_
      refine r_copyi 0 rfl rfl q501 dX0_copy_75 hg hg2 d1 d2 d3 b1 b2 (fun t ht => rfl) (Nat.le_of_ble_eq_true rfl) ?_
      rw [c1, c2, c3, cpy_i]
      refine r_iload dX0_copy_78 rfl ?_
      exact r_iret dX0_copy_80 rfl (Nat.le_of_ble_eq_true rfl) (Nat.le_of_ble_eq_true rfl) (hq2)
    · refine r_iload_n dX0_copy_0 rfl ?_
      refine r_callS (as := [_]) okX0_isShelf q375 dX0_copy_1 (Nat.le_of_ble_eq_true rfl) rfl (Nat.le_of_ble_eq_true rfl) (Nat.le_of_ble_eq_true rfl) (Nat.le_of_ble_eq_true rfl) (pX0_isShelf ?_)
      refine r_if_eq 14 dX0_copy_4 (by decide) (fun c_ => absurd c_ (in8 hp)) (fun _ => ?_)
      refine r_iload_n dX0_copy_7 rfl ?_
      refine r_callS (as := [_]) okX0_isShelf q375 dX0_copy_8 (Nat.le_of_ble_eq_true rfl) rfl (Nat.le_of_ble_eq_true rfl) (Nat.le_of_ble_eq_true rfl) (Nat.le_of_ble_eq_true rfl) (pX0_isShelf ?_)
      refine r_if_ne 21 dX0_copy_11 (by decide) (fun _ => ?_) (fun c_ => absurd c_ (in8 hq))
      refine r_aload_n dX0_copy_21 rfl ?_
      refine r_get bX0 8 (by decide) q254 dX0_copy_22 rfl rfl ?_
      refine r_iload_n dX0_copy_25 rfl ?_
      refine r_aald_sheet dX0_copy_26 rfl (vp_in_nI (by omega) (by omega)) ?_
      rw [nI_clamp (by omega)]
      refine r_get bX4 0 (by decide) q242 dX0_copy_27 (sh_at hp) rfl ?_
      rw [e1]
      refine r_astore dX0_copy_30 (Nat.le_of_ble_eq_true rfl) ?_
      refine r_aload_n dX0_copy_32 rfl ?_
      refine r_get bX0 8 (by decide) q254 dX0_copy_33 rfl rfl ?_
      refine r_iload_n dX0_copy_36 rfl ?_
      refine r_aald_sheet dX0_copy_37 rfl (vp_in_nI (by omega) (by omega)) ?_
      rw [nI_clamp (by omega)]
      refine r_get bX4 0 (by decide) q242 dX0_copy_38 (sh_at hq) rfl ?_
      rw [e2]
      refine r_astore dX0_copy_41 (Nat.le_of_ble_eq_true rfl) ?_
      refine r_aload dX0_copy_43 rfl ?_
      refine r_instNo (isA_row 3 hg) (nc_row 3) q419 dX0_copy_45 ?_
      refine r_if_ne 59 dX0_copy_48 (by decide) (fun c_ => absurd (rfl) c_) (fun _ => ?_)
      refine r_aload dX0_copy_51 rfl ?_
      refine r_instNo (isA_row 3 hg2) (nc_row 3) q419 dX0_copy_53 ?_
      refine r_if_eq 66 dX0_copy_56 (by decide) (fun _ => ?_) (fun c_ => absurd (rfl) c_)
      refine r_aload dX0_copy_66 rfl ?_
      refine r_iload_n dX0_copy_68 rfl ?_
      refine r_aload dX0_copy_69 rfl ?_
      refine r_iload dX0_copy_71 rfl ?_
      refine r_iload dX0_copy_73 rfl ?_
      refine r_copyl q501 dX0_copy_75 hg hg2 d1 d2 d3 b1 b2 (Nat.le_of_ble_eq_true rfl) ?_
      rw [c1, c2, c3]
      refine r_iload dX0_copy_78 rfl ?_
      exact r_iret dX0_copy_80 rfl (Nat.le_of_ble_eq_true rfl) (Nat.le_of_ble_eq_true rfl) (hq2)
    · refine r_iload_n dX0_copy_0 rfl ?_
      refine r_callS (as := [_]) okX0_isShelf q375 dX0_copy_1 (Nat.le_of_ble_eq_true rfl) rfl (Nat.le_of_ble_eq_true rfl) (Nat.le_of_ble_eq_true rfl) (Nat.le_of_ble_eq_true rfl) (pX0_isShelf ?_)
      refine r_if_eq 14 dX0_copy_4 (by decide) (fun c_ => absurd c_ (in8 hp)) (fun _ => ?_)
      refine r_iload_n dX0_copy_7 rfl ?_
      refine r_callS (as := [_]) okX0_isShelf q375 dX0_copy_8 (Nat.le_of_ble_eq_true rfl) rfl (Nat.le_of_ble_eq_true rfl) (Nat.le_of_ble_eq_true rfl) (Nat.le_of_ble_eq_true rfl) (pX0_isShelf ?_)
      refine r_if_ne 21 dX0_copy_11 (by decide) (fun _ => ?_) (fun c_ => absurd c_ (in8 hq))
      refine r_aload_n dX0_copy_21 rfl ?_
      refine r_get bX0 8 (by decide) q254 dX0_copy_22 rfl rfl ?_
      refine r_iload_n dX0_copy_25 rfl ?_
      refine r_aald_sheet dX0_copy_26 rfl (vp_in_nI (by omega) (by omega)) ?_
      rw [nI_clamp (by omega)]
      refine r_get bX4 0 (by decide) q242 dX0_copy_27 (sh_at hp) rfl ?_
      rw [e1]
      refine r_astore dX0_copy_30 (Nat.le_of_ble_eq_true rfl) ?_
      refine r_aload_n dX0_copy_32 rfl ?_
      refine r_get bX0 8 (by decide) q254 dX0_copy_33 rfl rfl ?_
      refine r_iload_n dX0_copy_36 rfl ?_
      refine r_aald_sheet dX0_copy_37 rfl (vp_in_nI (by omega) (by omega)) ?_
      rw [nI_clamp (by omega)]
      refine r_get bX4 0 (by decide) q242 dX0_copy_38 (sh_at hq) rfl ?_
      rw [e2]
      refine r_astore dX0_copy_41 (Nat.le_of_ble_eq_true rfl) ?_
      refine r_aload dX0_copy_43 rfl ?_
      refine r_instNo (isA_row 4 hg) (nc_row 4) q419 dX0_copy_45 ?_
      refine r_if_ne 59 dX0_copy_48 (by decide) (fun c_ => absurd (rfl) c_) (fun _ => ?_)
      refine r_aload dX0_copy_51 rfl ?_
      refine r_instNo (isA_row 4 hg2) (nc_row 4) q419 dX0_copy_53 ?_
      refine r_if_eq 66 dX0_copy_56 (by decide) (fun _ => ?_) (fun c_ => absurd (rfl) c_)
      refine r_aload dX0_copy_66 rfl ?_
      refine r_iload_n dX0_copy_68 rfl ?_
      refine r_aload dX0_copy_69 rfl ?_
      refine r_iload dX0_copy_71 rfl ?_
      refine r_iload dX0_copy_73 rfl ?_
      refine r_copyi 4 rfl rfl q501 dX0_copy_75 hg hg2 d1 d2 d3 b1 b2 (fun t ht => fit_z (hke _ (by omega))) (Nat.le_of_ble_eq_true rfl) ?_
      rw [c1, c2, c3, cpy_i]
      refine r_iload dX0_copy_78 rfl ?_
      exact r_iret dX0_copy_80 rfl (Nat.le_of_ble_eq_true rfl) (Nat.le_of_ble_eq_true rfl) (hq2)
  · have hout : i < 0 ∨ j < 0 ∨ z < 0 ∨ i.toInt + z.toInt > m ∨ j.toInt + z.toInt > m2 := by
      by_cases g1 : i < 0
      · exact Or.inl g1
      · by_cases g2 : j < 0
        · exact Or.inr (Or.inl g2)
        · by_cases g3 : z < 0
          · exact Or.inr (Or.inr (Or.inl g3))
          · obtain ⟨I, hI, rfl⟩ := nI_of g1
            obtain ⟨J, hJ, rfl⟩ := nI_of g2
            obtain ⟨N, hN2, rfl⟩ := nI_of g3
            rw [nI_toInt hI, nI_toInt hJ, nI_toInt hN2]
            by_cases g4 : I + N ≤ m
            · by_cases g5 : J + N ≤ m2
              · exact absurd ⟨I, J, N, rfl, rfl, rfl, g4, g5⟩ hin
              · exact Or.inr (Or.inr (Or.inr (Or.inr (by omega))))
            · exact Or.inr (Or.inr (Or.inr (Or.inl (by omega))))
    have hq2 := hN (fun I J N a1 a2 a3 a4 a5 => hin ⟨I, J, N, a1, a2, a3, a4, a5⟩)
    refine r_iload_n dX0_copy_0 rfl ?_
    refine r_callS (as := [_]) okX0_isShelf q375 dX0_copy_1 (Nat.le_of_ble_eq_true rfl) rfl (Nat.le_of_ble_eq_true rfl) (Nat.le_of_ble_eq_true rfl) (Nat.le_of_ble_eq_true rfl) (pX0_isShelf ?_)
    refine r_if_eq 14 dX0_copy_4 (by decide) (fun c_ => absurd c_ (in8 hp)) (fun _ => ?_)
    refine r_iload_n dX0_copy_7 rfl ?_
    refine r_callS (as := [_]) okX0_isShelf q375 dX0_copy_8 (Nat.le_of_ble_eq_true rfl) rfl (Nat.le_of_ble_eq_true rfl) (Nat.le_of_ble_eq_true rfl) (Nat.le_of_ble_eq_true rfl) (pX0_isShelf ?_)
    refine r_if_ne 21 dX0_copy_11 (by decide) (fun _ => ?_) (fun c_ => absurd c_ (in8 hq))
    refine r_aload_n dX0_copy_21 rfl ?_
    refine r_get bX0 8 (by decide) q254 dX0_copy_22 rfl rfl ?_
    refine r_iload_n dX0_copy_25 rfl ?_
    refine r_aald_sheet dX0_copy_26 rfl (vp_in_nI (by omega) (by omega)) ?_
    rw [nI_clamp (by omega)]
    refine r_get bX4 0 (by decide) q242 dX0_copy_27 (sh_at hp) rfl ?_
    rw [e1]
    refine r_astore dX0_copy_30 (Nat.le_of_ble_eq_true rfl) ?_
    refine r_aload_n dX0_copy_32 rfl ?_
    refine r_get bX0 8 (by decide) q254 dX0_copy_33 rfl rfl ?_
    refine r_iload_n dX0_copy_36 rfl ?_
    refine r_aald_sheet dX0_copy_37 rfl (vp_in_nI (by omega) (by omega)) ?_
    rw [nI_clamp (by omega)]
    refine r_get bX4 0 (by decide) q242 dX0_copy_38 (sh_at hq) rfl ?_
    rw [e2]
    refine r_astore dX0_copy_41 (Nat.le_of_ble_eq_true rfl) ?_
    refine r_aload dX0_copy_43 rfl ?_
    refine r_instNo (isA_row k hg) (nc_row k) q419 dX0_copy_45 ?_
    refine r_if_ne 59 dX0_copy_48 (by decide) (fun c_ => absurd (rfl) c_) (fun _ => ?_)
    refine r_aload dX0_copy_51 rfl ?_
    refine r_instNo (isA_row k hg2) (nc_row k) q419 dX0_copy_53 ?_
    refine r_if_eq 66 dX0_copy_56 (by decide) (fun _ => ?_) (fun c_ => absurd (rfl) c_)
    refine r_aload dX0_copy_66 rfl ?_
    refine r_iload_n dX0_copy_68 rfl ?_
    refine r_aload dX0_copy_69 rfl ?_
    refine r_iload dX0_copy_71 rfl ?_
    refine r_iload dX0_copy_73 rfl ?_
    refine r_cpMsg vx_aio q501 dX0_copy_75 (Nat.le_of_ble_eq_true rfl) (Nat.le_of_ble_eq_true rfl) (Nat.le_of_ble_eq_true rfl) (thr_bounds h1 h2' hg hg2 hout) (rt_catch (hp := 99) (fun G hG => srN hG (by decide) (by decide) q461 nc_ArrayIndexOutOfBounds_NullPointer (srN hG (by decide) (by decide) q486 nc_ArrayIndexOutOfBounds_ArrayStore (srY (by decide) (by decide) q500 q2058))) ?_)
    refine r_astore dX0_copy_99 (Nat.le_of_ble_eq_true rfl) ?_
    refine r_aload_n dX0_copy_101 rfl ?_
    refine r_bipush (-2) dX0_copy_102 (by decide) ?_
    refine r_callV (as := [_]) okX0_no bX0 rfl rfl q381 dX0_copy_104 (Nat.le_of_ble_eq_true rfl) rfl (Nat.le_of_ble_eq_true rfl) (Nat.le_of_ble_eq_true rfl) (Nat.le_of_ble_eq_true rfl) (pX0_no 2 (by decide) (by decide) ?_)
    exact r_iret dX0_copy_107 rfl (Nat.le_of_ble_eq_true rfl) (Nat.le_of_ble_eq_true rfl) (hq2 _)
end XX
