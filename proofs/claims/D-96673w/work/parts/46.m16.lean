set_option maxRecDepth 100000
/-! the reference: evenings that come -/
theorem drU_lt (s : Int32) : ∃ z, z < 65536 ∧ drU s = nI z := by
  refine ⟨(s.toUInt32 >>> 16).toNat, ?_, ?_⟩
  · rw [UInt32.toNat_shiftRight]
    have h1 : s.toUInt32.toNat < 4294967296 := UInt32.toNat_lt _
    have h2 : (16 : UInt32).toNat % 32 = 16 := by decide
    rw [h2, Nat.shiftRight_eq_div_pow]
    omega
  · unfold drU
    rw [show (Int32.toUInt32 16 &&& Int32.toUInt32 31) = (16 : UInt32) by decide]
    apply Int32.toBitVec_inj.mp
    generalize s.toUInt32 >>> 16 = u
    show u.toBitVec = BitVec.ofNat 32 u.toBitVec.toNat
    rw [BitVec.ofNat_toNat, BitVec.setWidth_eq]
theorem drV_in {s : Int32} {m : Nat} (h0 : 0 < m) (hm : m < 2 ^ 31) : ∃ z, z < m ∧ drV s (nI m) = nI z := by
  obtain ⟨z, hz, e⟩ := drU_lt s
  refine ⟨z % m, Nat.mod_lt _ h0, ?_⟩
  unfold drV
  rw [e]
  exact pk_rem (by omega) h0 hm
/-- who comes, by chance -/
def dsF (co : Nat → Int32) (se : Int32) : Nat → Int32 × Int32
  | 0 => (0, se)
  | k + 1 => (if drV (drN (dsF co se k).2) 12 < co k then (dsF co se k).1 ||| ((1 : Int32) <<< (nI k &&& 31)) else (dsF co se k).1, drN (dsF co se k).2)
/-- the empty places are filled, by chance -/
def fpF (th : Nat → Int32) (se : Int32) : Nat → (Nat → Int32) × Int32
  | 0 => (th, se)
  | k + 1 => if (fpF th se k).1 k = -1 then (upd (fpF th se k).1 k (drV (drN (fpF th se k).2) 8), drN (fpF th se k).2) else fpF th se k
abbrev CS : Type := (Nat → Int32) × (Nat → Int32) × (Nat → Int32) × Int32 × Int32 × Int32
/-- one evening: panes, shine, has, evenings, seed, what was taken -/
def chS (w : Nat) (kN : Nat → Nat) (ow lk ag co : Nat → Int32) (n : Nat) (S : CS) : CS :=
  ((fpF (evR kN ow lk ag n S.1 (dsF co S.2.2.2.2.1 n).1).1 (dsF co S.2.2.2.2.1 n).2 w).1, siF S.1 (evR kN ow lk ag n S.1 (dsF co S.2.2.2.2.1 n).1).2.1 (evR kN ow lk ag n S.1 (dsF co S.2.2.2.2.1 n).1).2.2 S.2.1 n, (haF S.1 (evR kN ow lk ag n S.1 (dsF co S.2.2.2.2.1 n).1).2.1 S.2.2.1 n).2, S.2.2.2.1 + 1, (fpF (evR kN ow lk ag n S.1 (dsF co S.2.2.2.2.1 n).1).1 (dsF co S.2.2.2.2.1 n).2 w).2, S.2.2.2.2.2 + (haF S.1 (evR kN ow lk ag n S.1 (dsF co S.2.2.2.2.1 n).1).2.1 S.2.2.1 n).1)
def chK (w : Nat) (kN : Nat → Nat) (ow lk ag co : Nat → Int32) (n : Nat) (S : CS) : Nat → CS
  | 0 => S
  | k + 1 => chS w kN ow lk ag co n (chK w kN ow lk ag co n S k)
theorem fp_ThI {th : Nat → Int32} {se : Int32} (h : ThI th) : ∀ k, ThI (fpF th se k).1
  | 0 => h
  | k + 1 => by
    have ih := fp_ThI (se := se) h k
    simp only [fpF]
    split
    · intro q hq
      show upd (fpF th se k).1 k (drV (drN (fpF th se k).2) 8) q = -1 ∨ ∃ s, s < 8 ∧ upd (fpF th se k).1 k (drV (drN (fpF th se k).2) 8) q = nI s
      by_cases g : q = k
      · subst g
        right
        obtain ⟨z, hz, e⟩ := drV_in (s := drN (fpF th se q).2) (m := 8) (by decide) (by decide)
        exact ⟨z, hz, by rw [pk_us]; exact e⟩
      · rw [pk_un g]
        exact ih q hq
    · exact ih
theorem chS_1 (w : Nat) (kN : Nat → Nat) (ow lk ag co : Nat → Int32) (n : Nat) (S : CS) : (chS w kN ow lk ag co n S).1 = (fpF (evR kN ow lk ag n S.1 (dsF co S.2.2.2.2.1 n).1).1 (dsF co S.2.2.2.2.1 n).2 w).1 := rfl
theorem chS_ThI {w : Nat} {kN : Nat → Nat} {ow lk ag co : Nat → Int32} {n : Nat} {S : CS} (ho : ∀ j, j < n → ow j ≠ -1) (h : ThI S.1) : ThI (chS w kN ow lk ag co n S).1 := by
  rw [chS_1]
  have h1 := ev_ThI (kN := kN) (lk := lk) (ag := ag) (s := (dsF co S.2.2.2.2.1 n).1) ho h
  generalize (evR kN ow lk ag n S.1 (dsF co S.2.2.2.2.1 n).1).1 = T at h1 ⊢
  generalize (dsF co S.2.2.2.2.1 n).2 = v
  exact fp_ThI (th := T) (se := v) h1 w
theorem chK_s (w : Nat) (kN : Nat → Nat) (ow lk ag co : Nat → Int32) (n : Nat) (S : CS) (k : Nat) : chK w kN ow lk ag co n S (k + 1) = chS w kN ow lk ag co n (chK w kN ow lk ag co n S k) := rfl
theorem ch_ThI {w : Nat} {kN : Nat → Nat} {ow lk ag co : Nat → Int32} {n : Nat} {S : CS} (ho : ∀ j, j < n → ow j ≠ -1) (h : ThI S.1) (k : Nat) : ThI (chK w kN ow lk ag co n S k).1 := by
  induction k with
  | zero => exact h
  | succ k ih =>
    rw [chK_s]
    exact chS_ThI ho ih
section MM
variable {th kd ow ag lk co sh hs tp hd rl : Nat → Int32} {ro : Nat → Int64} {rf ol ah tr od tk fo wi ou ge mo : Nat → Int32} {my ev se td fr to tn va im lo : Int32} {r : List AC × List AC × List AC} {Q : Option Value → AHp → Prop}
variable {n : Nat} {kN : Nat → Nat}
theorem pX5_evening {s : Int32} (hn : n ≤ 8) (hk : ∀ j, j < n → kd j = nI (kN j) ∧ kN j < 6) (ho : ∀ j, j < n → ow j ≠ -1) (hth : ThI th) (hbad : inB s 0 (allS n) = false → Q (some (.int (-2))) ((mC th kd ow ag lk co sh hs tp hd rl ro (upd rf 2 (rf 2 + 1)) ol ah tr od tk fo wi ou ge mo (nI n) ev se td fr to tn va im lo), r)) (hok : inB s 0 (allS n) = true → ∀ (tr tk fo od : Nat → Int32) (lo : Int32), Q (some (.int (haF th (evR kN ow lk ag n th s).2.1 hs n).1)) ((mC ((evR kN ow lk ag n th s).1) kd ow ag lk co (siF th (evR kN ow lk ag n th s).2.1 (evR kN ow lk ag n th s).2.2 sh n) ((haF th (evR kN ow lk ag n th s).2.1 hs n).2) tp hd rl ro rf ol ah tr od tk fo wi ou ge mo (nI n) (ev + 1) se td fr to tn va im lo), r)) : AMet mX5_evening 7 0 0 [.ref 0, .int s] ((mC th kd ow ag lk co sh hs tp hd rl ro rf ol ah tr od tk fo wi ou ge mo (nI n) ev se td fr to tn va im lo), r) Q := by
  refine AMet.ofRch rfl rfl (Nat.le_of_ble_eq_true rfl) ?_
  refine r_aload_n dX5_evening_0 rfl ?_
  refine r_iload_n dX5_evening_1 rfl ?_
  refine r_callV (as := [_]) okX5_isSet bX5 rfl rfl q1824 dX5_evening_2 (Nat.le_of_ble_eq_true rfl) rfl (Nat.le_of_ble_eq_true rfl) (Nat.le_of_ble_eq_true rfl) (Nat.le_of_ble_eq_true rfl) (pX5_isSetN hn ?_)
  refine r_if_eq 16 dX5_evening_5 (by decide) (fun c_5 => ?_) (fun c_5 => ?_)
  · refine r_aload_n dX5_evening_16 rfl ?_
    refine r_bipush (-2) dX5_evening_17 (by decide) ?_
    refine r_callV (as := [_]) okX5_no bX5 rfl rfl q1633 dX5_evening_19 (Nat.le_of_ble_eq_true rfl) rfl (Nat.le_of_ble_eq_true rfl) (Nat.le_of_ble_eq_true rfl) (Nat.le_of_ble_eq_true rfl) (pX5_no 2 (by decide) (by decide) ?_)
    exact r_iret dX5_evening_22 rfl (Nat.le_of_ble_eq_true rfl) (Nat.le_of_ble_eq_true rfl) (by first | exact hok (b2i_n.mp c_5) _ _ _ _ _ | exact hbad (b2i_0.mp c_5))
  · refine r_aload_n dX5_evening_8 rfl ?_
    refine r_iload_n dX5_evening_9 rfl ?_
    refine r_callV (as := [_]) okX5_goes bX5 rfl rfl q2011 dX5_evening_10 (Nat.le_of_ble_eq_true rfl) rfl (Nat.le_of_ble_eq_true rfl) (Nat.le_of_ble_eq_true rfl) (Nat.le_of_ble_eq_true rfl) (pX5_goes hn hk ho hth (fun tr2 tk2 fo2 od2 lo2 => ?_))
    refine r_goto 22 dX5_evening_13 (by decide) ?_
    exact r_iret dX5_evening_22 rfl (Nat.le_of_ble_eq_true rfl) (Nat.le_of_ble_eq_true rfl) (by first | exact hok (b2i_n.mp c_5) _ _ _ _ _ | exact hbad (b2i_0.mp c_5))
theorem pX5_christmases {w : Nat} (hw : w = 12) {c : Int32} (hn : n ≤ 8) (hk : ∀ j, j < n → kd j = nI (kN j) ∧ kN j < 6) (ho : ∀ j, j < n → ow j ≠ -1) (hth : ThI th) (hbad : inB c 1 40 = false → Q (some (.int (-2))) ((mC th kd ow ag lk co sh hs tp hd rl ro (upd rf 2 (rf 2 + 1)) ol ah tr od tk fo wi ou ge mo (nI n) ev se td fr to tn va im lo), r)) (hok : ∀ m, 1 ≤ m → m ≤ 40 → c = nI m → ∀ (tr tk fo od : Nat → Int32) (lo : Int32), Q (some (.int (chK w kN ow lk ag co n (th, sh, hs, ev, se, 0) m).2.2.2.2.2)) ((mC ((chK w kN ow lk ag co n (th, sh, hs, ev, se, 0) m).1) kd ow ag lk co ((chK w kN ow lk ag co n (th, sh, hs, ev, se, 0) m).2.1) ((chK w kN ow lk ag co n (th, sh, hs, ev, se, 0) m).2.2.1) tp hd rl ro rf ol ah tr od tk fo wi ou ge mo (nI n) ((chK w kN ow lk ag co n (th, sh, hs, ev, se, 0) m).2.2.2.1) ((chK w kN ow lk ag co n (th, sh, hs, ev, se, 0) m).2.2.2.2.1) td fr to tn va im lo), r)) : AMet mX5_christmases 7 0 0 [.ref 0, .int c] ((mC th kd ow ag lk co sh hs tp hd rl ro rf ol ah tr od tk fo wi ou ge mo (nI n) ev se td fr to tn va im lo), r) Q := by
  refine AMet.ofRch rfl rfl (Nat.le_of_ble_eq_true rfl) ?_
  have hgo : ∀ m, 1 ≤ m → m ≤ 40 → c = nI m → Rch (mX5_christmases, 7, 0, 0, oQ Q) 0 0 17 [some (.ref 0), some (.int c), none, none, none, none] [] ((mC th kd ow ag lk co sh hs tp hd rl ro rf ol ah tr od tk fo wi ou ge mo (nI n) ev se td fr to tn va im lo), r) := by
    intro m hm1 hm2 e
    subst e
    have hI := fun k => ch_ThI (w := w) (kN := kN) (lk := lk) (ag := ag) (co := co) (S := (th, sh, hs, ev, se, 0)) ho hth k
    refine r_iconst 0 dX5_christmases_17 (by decide) ?_
    refine r_istore_n dX5_christmases_18 (Nat.le_of_ble_eq_true rfl) ?_
    refine r_iconst 0 dX5_christmases_19 (by decide) ?_
    refine r_istore_n dX5_christmases_20 (Nat.le_of_ble_eq_true rfl) ?_
    refine loopUp (N := m) (P := fun k => ∀ (x y : Option Value) (tr tk fo od : Nat → Int32) (lo : Int32), Rch (mX5_christmases, 7, 0, 0, oQ Q) 0 0 21 [some (.ref 0), some (.int (nI m)), some (.int (chK w kN ow lk ag co n (th, sh, hs, ev, se, 0) k).2.2.2.2.2), some (.int (nI k)), x, y] [] ((mC ((chK w kN ow lk ag co n (th, sh, hs, ev, se, 0) k).1) kd ow ag lk co ((chK w kN ow lk ag co n (th, sh, hs, ev, se, 0) k).2.1) ((chK w kN ow lk ag co n (th, sh, hs, ev, se, 0) k).2.2.1) tp hd rl ro rf ol ah tr od tk fo wi ou ge mo (nI n) ((chK w kN ow lk ag co n (th, sh, hs, ev, se, 0) k).2.2.2.1) ((chK w kN ow lk ag co n (th, sh, hs, ev, se, 0) k).2.2.2.2.1) td fr to tn va im lo), r)) ?_ ?_ none none _ _ _ _ _
    · intro x y tr tk fo od lo
      refine r_iload_n dX5_christmases_21 rfl ?_
      refine r_iload_n dX5_christmases_22 rfl ?_
      refine r_icmp_ge 127 dX5_christmases_23 (by decide) (fun _ => ?_) (fun c_ => absurd (Int32.le_refl _) c_)
      refine r_iload_n dX5_christmases_127 rfl ?_
      exact r_iret dX5_christmases_128 rfl (Nat.le_of_ble_eq_true rfl) (Nat.le_of_ble_eq_true rfl) (hok m hm1 hm2 rfl _ _ _ _ _)
    · intro k hk2 ih x y tr tk fo od lo
      have hIk := hI k
      simp only [chK] at ih
      generalize chK w kN ow lk ag co n (th, sh, hs, ev, se, 0) k = S at ih hIk ⊢
      refine r_iload_n dX5_christmases_21 rfl ?_
      refine r_iload_n dX5_christmases_22 rfl ?_
      refine r_icmp_ge 127 dX5_christmases_23 (by decide) (fun c_ => absurd c_ (geF hk2 (by omega))) (fun _ => ?_)
      refine r_iconst 0 dX5_christmases_26 (by decide) ?_
      refine r_istore dX5_christmases_27 (Nat.le_of_ble_eq_true rfl) ?_
      refine r_iconst 0 dX5_christmases_29 (by decide) ?_
      refine r_istore dX5_christmases_30 (Nat.le_of_ble_eq_true rfl) ?_
      refine loopUp (N := n) (P := fun q => Rch (mX5_christmases, 7, 0, 0, oQ Q) 0 0 32 [some (.ref 0), some (.int (nI m)), some (.int S.2.2.2.2.2), some (.int (nI k)), some (.int (dsF co S.2.2.2.2.1 q).1), some (.int (nI q))] [] ((mC (S.1) kd ow ag lk co (S.2.1) (S.2.2.1) tp hd rl ro rf ol ah tr od tk fo wi ou ge mo (nI n) (S.2.2.2.1) ((dsF co S.2.2.2.2.1 q).2) td fr to tn va im lo), r)) ?_ ?_
      · refine r_iload dX5_christmases_32 rfl ?_
        refine r_aload_n dX5_christmases_34 rfl ?_
        refine r_get bX5 1 (by decide) q1524 dX5_christmases_35 rfl rfl ?_
        refine r_icmp_ge 72 dX5_christmases_38 (by decide) (fun _ => ?_) (fun c_ => absurd (Int32.le_refl _) c_)
        refine r_iload_n dX5_christmases_72 rfl ?_
        refine r_aload_n dX5_christmases_73 rfl ?_
        refine r_iload dX5_christmases_74 rfl ?_
        refine r_callV (as := [_]) okX5_goes bX5 rfl rfl q2011 dX5_christmases_76 (Nat.le_of_ble_eq_true rfl) rfl (Nat.le_of_ble_eq_true rfl) (Nat.le_of_ble_eq_true rfl) (Nat.le_of_ble_eq_true rfl) (pX5_goes hn hk ho hIk (fun tr2 tk2 fo2 od2 lo2 => ?_))
        refine r_iadd dX5_christmases_79 ?_
        refine r_istore_n dX5_christmases_80 (Nat.le_of_ble_eq_true rfl) ?_
        refine r_iconst 0 dX5_christmases_81 (by decide) ?_
        refine r_istore dX5_christmases_82 (Nat.le_of_ble_eq_true rfl) ?_
        refine loopUp (N := w) (P := fun q => Rch (mX5_christmases, 7, 0, 0, oQ Q) 0 0 84 [some (.ref 0), some (.int (nI m)), some (.int (S.2.2.2.2.2 + (haF S.1 (evR kN ow lk ag n S.1 (dsF co S.2.2.2.2.1 n).1).2.1 S.2.2.1 n).1)), some (.int (nI k)), some (.int (dsF co S.2.2.2.2.1 n).1), some (.int (nI q))] [] ((mC ((fpF (evR kN ow lk ag n S.1 (dsF co S.2.2.2.2.1 n).1).1 (dsF co S.2.2.2.2.1 n).2 q).1) kd ow ag lk co (siF S.1 (evR kN ow lk ag n S.1 (dsF co S.2.2.2.2.1 n).1).2.1 (evR kN ow lk ag n S.1 (dsF co S.2.2.2.2.1 n).1).2.2 S.2.1 n) ((haF S.1 (evR kN ow lk ag n S.1 (dsF co S.2.2.2.2.1 n).1).2.1 S.2.2.1 n).2) tp hd rl ro rf ol ah (tr2) (od2) (tk2) (fo2) wi ou ge mo (nI n) (S.2.2.2.1 + 1) ((fpF (evR kN ow lk ag n S.1 (dsF co S.2.2.2.2.1 n).1).1 (dsF co S.2.2.2.2.1 n).2 q).2) td fr to tn va im (lo2)), r)) ?_ ?_
        · refine r_iload dX5_christmases_84 rfl ?_
          refine r_bipush 12 dX5_christmases_86 (by decide) ?_
          refine r_icmp_ge 121 dX5_christmases_88 (by decide) (fun _ => ?_) (fun c_ => absurd (by rw [hw]; exact geT 12) c_)
          refine r_iincV dX5_christmases_121 rfl (Nat.le_of_ble_eq_true rfl) (incN _) ?_
          refine r_goto 21 dX5_christmases_124 (by decide) ?_
          exact ih _ _ _ _ _ _ _
        · intro q hq ih2
          by_cases g : (fpF (evR kN ow lk ag n S.1 (dsF co S.2.2.2.2.1 n).1).1 (dsF co S.2.2.2.2.1 n).2 q).1 q = -1
          · rw [fpF, if_pos g] at ih2
            refine r_iload dX5_christmases_84 rfl ?_
            refine r_bipush 12 dX5_christmases_86 (by decide) ?_
            refine r_icmp_ge 121 dX5_christmases_88 (by decide) (fun c_ => absurd c_ (geF (N := 12) (by omega) (by decide))) (fun _ => ?_)
            refine r_aload_n dX5_christmases_91 rfl ?_
            refine r_get bX5 0 (by decide) q1523 dX5_christmases_92 rfl rfl ?_
            refine r_iload dX5_christmases_95 rfl ?_
            refine r_ialdN dX5_christmases_97 rfl (by omega) (Nat.le_of_ble_eq_true rfl) ?_
            refine r_iconst (-1) dX5_christmases_98 (by decide) ?_
            refine r_icmp_ne 115 dX5_christmases_99 (by decide) (fun c_ => absurd (g) c_) (fun _ => ?_)
            refine r_aload_n dX5_christmases_102 rfl ?_
            refine r_get bX5 0 (by decide) q1523 dX5_christmases_103 rfl rfl ?_
            refine r_iload dX5_christmases_106 rfl ?_
            refine r_aload_n dX5_christmases_108 rfl ?_
            refine r_bipush 8 dX5_christmases_109 (by decide) ?_
            refine r_callV (as := [_]) okX5_draw bX5 rfl rfl q2025 dX5_christmases_111 (Nat.le_of_ble_eq_true rfl) rfl (Nat.le_of_ble_eq_true rfl) (Nat.le_of_ble_eq_true rfl) (Nat.le_of_ble_eq_true rfl) (pX5_draw (by decide) ?_)
            refine r_iastN dX5_christmases_114 rfl (by omega) (Nat.le_of_ble_eq_true rfl) ?_
            refine r_iincV dX5_christmases_115 rfl (Nat.le_of_ble_eq_true rfl) (incN _) ?_
            refine r_goto 84 dX5_christmases_118 (by decide) ?_
            exact ih2
          · rw [fpF, if_neg g] at ih2
            refine r_iload dX5_christmases_84 rfl ?_
            refine r_bipush 12 dX5_christmases_86 (by decide) ?_
            refine r_icmp_ge 121 dX5_christmases_88 (by decide) (fun c_ => absurd c_ (geF (N := 12) (by omega) (by decide))) (fun _ => ?_)
            refine r_aload_n dX5_christmases_91 rfl ?_
            refine r_get bX5 0 (by decide) q1523 dX5_christmases_92 rfl rfl ?_
            refine r_iload dX5_christmases_95 rfl ?_
            refine r_ialdN dX5_christmases_97 rfl (by omega) (Nat.le_of_ble_eq_true rfl) ?_
            refine r_iconst (-1) dX5_christmases_98 (by decide) ?_
            refine r_icmp_ne 115 dX5_christmases_99 (by decide) (fun _ => ?_) (fun c_ => absurd c_ (g))
            refine r_iincV dX5_christmases_115 rfl (Nat.le_of_ble_eq_true rfl) (incN _) ?_
            refine r_goto 84 dX5_christmases_118 (by decide) ?_
            exact ih2
      · intro q hq ih2
        refine r_iload dX5_christmases_32 rfl ?_
        refine r_aload_n dX5_christmases_34 rfl ?_
        refine r_get bX5 1 (by decide) q1524 dX5_christmases_35 rfl rfl ?_
        refine r_icmp_ge 72 dX5_christmases_38 (by decide) (fun c_ => absurd c_ (geF hq (by omega))) (fun _ => ?_)
        refine r_aload_n dX5_christmases_41 rfl ?_
        refine r_bipush 12 dX5_christmases_42 (by decide) ?_
        refine r_callV (as := [_]) okX5_draw bX5 rfl rfl q2025 dX5_christmases_44 (Nat.le_of_ble_eq_true rfl) rfl (Nat.le_of_ble_eq_true rfl) (Nat.le_of_ble_eq_true rfl) (Nat.le_of_ble_eq_true rfl) (pX5_draw (by decide) ?_)
        refine r_aload_n dX5_christmases_47 rfl ?_
        refine r_get bX5 6 (by decide) q1529 dX5_christmases_48 rfl rfl ?_
        refine r_iload dX5_christmases_51 rfl ?_
        refine r_ialdN dX5_christmases_53 rfl (by omega) (Nat.le_of_ble_eq_true rfl) ?_
        refine r_icmp_ge 66 dX5_christmases_54 (by decide) (fun c_54 => ?_) (fun c_54 => ?_)
        · refine r_iincV dX5_christmases_66 rfl (Nat.le_of_ble_eq_true rfl) (incN _) ?_
          refine r_goto 32 dX5_christmases_69 (by decide) ?_
          first | (have q1 := Int32.not_lt.mpr c_54; rw [dsF, if_neg q1] at ih2; exact ih2) | (have q1 := Int32.not_le.mp c_54; rw [dsF, if_pos q1] at ih2; exact ih2)
        · refine r_iload dX5_christmases_57 rfl ?_
          refine r_iconst 1 dX5_christmases_59 (by decide) ?_
          refine r_iload dX5_christmases_60 rfl ?_
          refine r_ishl dX5_christmases_62 ?_
          refine r_ior dX5_christmases_63 ?_
          refine r_istore dX5_christmases_64 (Nat.le_of_ble_eq_true rfl) ?_
          refine r_iincV dX5_christmases_66 rfl (Nat.le_of_ble_eq_true rfl) (incN _) ?_
          refine r_goto 32 dX5_christmases_69 (by decide) ?_
          first | (have q1 := Int32.not_lt.mpr c_54; rw [dsF, if_neg q1] at ih2; exact ih2) | (have q1 := Int32.not_le.mp c_54; rw [dsF, if_pos q1] at ih2; exact ih2)
  refine r_iload_n dX5_christmases_0 rfl ?_
  refine r_iconst 1 dX5_christmases_1 (by decide) ?_
  refine r_bipush 40 dX5_christmases_2 (by decide) ?_
  refine r_callS (as := [_, _, _]) okX5_within q1630 dX5_christmases_4 (Nat.le_of_ble_eq_true rfl) rfl (Nat.le_of_ble_eq_true rfl) (Nat.le_of_ble_eq_true rfl) (Nat.le_of_ble_eq_true rfl) (pX5_within ?_)
  refine r_if_ne 17 dX5_christmases_7 (by decide) (fun c_7 => ?_) (fun c_7 => ?_)
  · obtain ⟨m, g1, g2, e⟩ := inB_ex2 (a := 1) (b := 40) (by decide) (by decide) (b2i_n.mp c_7)
    exact hgo m g1 g2 e
  · refine r_aload_n dX5_christmases_10 rfl ?_
    refine r_bipush (-2) dX5_christmases_11 (by decide) ?_
    refine r_callV (as := [_]) okX5_no bX5 rfl rfl q1633 dX5_christmases_13 (Nat.le_of_ble_eq_true rfl) rfl (Nat.le_of_ble_eq_true rfl) (Nat.le_of_ble_eq_true rfl) (Nat.le_of_ble_eq_true rfl) (pX5_no 2 (by decide) (by decide) ?_)
    exact r_iret dX5_christmases_16 rfl (Nat.le_of_ble_eq_true rfl) (Nat.le_of_ble_eq_true rfl) (hbad (b2i_0.mp c_7))
end MM
