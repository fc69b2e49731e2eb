set_option maxRecDepth 100000
/-! the reference: image, status, the judge -/
/-- f laid over g from b on, k long -/
def ovF (f : Nat → Int32) (b k : Nat) (g : Nat → Int32) : Nat → Int32 := fun i => if b ≤ i ∧ i < b + k then f (i - b) else g i
theorem ov_0 (f : Nat → Int32) (b : Nat) (g : Nat → Int32) : ovF f b 0 g = g := by
  funext i
  simp only [ovF]
  rw [if_neg (by omega)]
theorem ov_up (f : Nat → Int32) (b k : Nat) (g : Nat → Int32) : upd (ovF f b k g) (b + k) (f k) = ovF f b (k + 1) g := by
  funext i
  by_cases h : i = b + k
  · subst h
    rw [pk_us]
    simp [ovF]
  · rw [pk_un h]
    simp only [ovF]
    by_cases h2 : b ≤ i ∧ i < b + k
    · rw [if_pos h2, if_pos (by omega)]
    · rw [if_neg h2, if_neg (by omega)]
theorem ov_thru {f : Nat → Int32} {b k : Nat} {g : Nat → Int32} {p : Nat} {v : Int32} (h : p < b ∨ b + k ≤ p) : upd (ovF f b k g) p v = ovF f b k (upd g p v) := by
  funext i
  by_cases e : i = p
  · subst e
    rw [pk_us]
    simp only [ovF]
    rw [if_neg (by omega), pk_us]
  · rw [pk_un e]
    simp only [ovF]
    rw [pk_un e]
theorem ov_up0 (f : Nat → Int32) (k : Nat) (g : Nat → Int32) : upd (ovF f 0 k g) k (f k) = ovF f 0 (k + 1) g := by
  have := ov_up f 0 k g
  rwa [Nat.zero_add] at this
/-- the image of six looker's parts -/
def k6F (kd ow ag lk co sh : Nat → Int32) (k : Nat) (g : Nat → Int32) : Nat → Int32 := ovF kd 12 k (ovF ow 20 k (ovF ag 28 k (ovF lk 36 k (ovF co 44 k (ovF sh 52 k g)))))
theorem k6_0 (kd ow ag lk co sh g : Nat → Int32) : k6F kd ow ag lk co sh 0 g = g := by simp only [k6F, ov_0]
theorem k6_up {kd ow ag lk co sh g : Nat → Int32} {k : Nat} (hk : k < 8) : upd (upd (upd (upd (upd (upd (k6F kd ow ag lk co sh k g) (12 + k) (kd k)) (20 + k) (ow k)) (28 + k) (ag k)) (36 + k) (lk k)) (44 + k) (co k)) (52 + k) (sh k) = k6F kd ow ag lk co sh (k + 1) g := by
  unfold k6F
  rw [ov_up]
  rw [ov_thru (p := 20 + k) (b := 12) (by omega), ov_up]
  rw [ov_thru (p := 28 + k) (b := 12) (by omega), ov_thru (p := 28 + k) (b := 20) (by omega), ov_up]
  rw [ov_thru (p := 36 + k) (b := 12) (by omega), ov_thru (p := 36 + k) (b := 20) (by omega), ov_thru (p := 36 + k) (b := 28) (by omega), ov_up]
  rw [ov_thru (p := 44 + k) (b := 12) (by omega), ov_thru (p := 44 + k) (b := 20) (by omega), ov_thru (p := 44 + k) (b := 28) (by omega), ov_thru (p := 44 + k) (b := 36) (by omega), ov_up]
  rw [ov_thru (p := 52 + k) (b := 12) (by omega), ov_thru (p := 52 + k) (b := 20) (by omega), ov_thru (p := 52 + k) (b := 28) (by omega), ov_thru (p := 52 + k) (b := 36) (by omega), ov_thru (p := 52 + k) (b := 44) (by omega), ov_up]
/-- what is kept -/
def kpF (th kd ow ag lk co sh hs : Nat → Int32) (my ev se : Int32) (g : Nat → Int32) : Nat → Int32 := upd (upd (upd (ovF hs 60 64 (k6F kd ow ag lk co sh 8 (ovF th 0 12 g))) 124 my) 125 ev) 126 se
section MM
variable {th kd ow ag lk co sh hs tp hd rl : Nat → Int32} {ro : Nat → Int64} {rf ol ah tr od tk fo wi ou ge mo : Nat → Int32} {my ev se td fr to tn va im lo : Int32} {r : List AC × List AC × List AC} {Q : Option Value → AHp → Prop}
variable {n : Nat} {kN : Nat → Nat}
theorem pX5_seed {v : Int32} (hQ : Q (some (.int se)) ((mC th kd ow ag lk co sh hs tp hd rl ro rf ol ah tr od tk fo wi ou ge mo my ev (v) td fr to tn va im lo), r)) : AMet mX5_seed 1 0 0 [.ref 0, .int v] ((mC th kd ow ag lk co sh hs tp hd rl ro rf ol ah tr od tk fo wi ou ge mo my ev se td fr to tn va im lo), r) Q := by
  refine AMet.ofRch rfl rfl (Nat.le_of_ble_eq_true rfl) ?_
  refine r_aload_n dX5_seed_0 rfl ?_
  refine r_get bX5 10 (by decide) q1533 dX5_seed_1 rfl rfl ?_
  refine r_istore_n dX5_seed_4 (Nat.le_of_ble_eq_true rfl) ?_
  refine r_aload_n dX5_seed_5 rfl ?_
  refine r_iload_n dX5_seed_6 rfl ?_
  refine r_put bX5 10 (by decide) rfl q1533 dX5_seed_7 rfl rfl rfl (Nat.le_of_ble_eq_true rfl) ?_
  refine r_iload_n dX5_seed_10 rfl ?_
  exact r_iret dX5_seed_11 rfl (Nat.le_of_ble_eq_true rfl) (Nat.le_of_ble_eq_true rfl) (hQ)
theorem pX5_toldAt {j i : Nat} (hj : j < 8) (hi : i < 40) (hQ : Q (some (.long (ro (40 * j + i)))) ((mC th kd ow ag lk co sh hs tp hd rl ro rf ol ah tr od tk fo wi ou ge mo my ev se td fr to tn va im lo), r)) : AMet mX5_toldAt 1 0 0 [.ref 0, .int (nI j), .int (nI i)] ((mC th kd ow ag lk co sh hs tp hd rl ro rf ol ah tr od tk fo wi ou ge mo my ev se td fr to tn va im lo), r) Q := by
  refine AMet.ofRch rfl rfl (Nat.le_of_ble_eq_true rfl) ?_
  refine r_aload_n dX5_toldAt_0 rfl ?_
  refine r_get bX5 19 (by decide) q1542 dX5_toldAt_1 rfl rfl ?_
  refine r_bipush 40 dX5_toldAt_4 (by decide) ?_
  refine r_iload_n dX5_toldAt_6 rfl ?_
  refine r_imul dX5_toldAt_7 ?_
  rw [show (40 : Int32) * nI j = nI (40 * j) from pk_mul 40 j]
  refine r_iload_n dX5_toldAt_8 rfl ?_
  refine r_iadd dX5_toldAt_9 ?_
  rw [nI_add]
  refine r_laldN dX5_toldAt_10 rfl (by omega) (Nat.le_of_ble_eq_true rfl) ?_
  exact r_lret dX5_toldAt_11 rfl (Nat.le_of_ble_eq_true rfl) (Nat.le_of_ble_eq_true rfl) (hQ)
theorem pX5_keepO (hQ : Q none ((mC th kd ow ag lk co sh hs tp hd rl ro rf (kpF th kd ow ag lk co sh hs my ev se ol) ah tr od tk fo wi ou ge mo my ev se td fr to tn va im lo), r)) : AMet mX5_keep 1 0 0 [.ref 0, .ref 112] ((mC th kd ow ag lk co sh hs tp hd rl ro rf ol ah tr od tk fo wi ou ge mo my ev se td fr to tn va im lo), r) Q := by
  refine AMet.ofRch rfl rfl (Nat.le_of_ble_eq_true rfl) ?_
  refine r_iconst 0 dX5_keep_0 (by decide) ?_
  refine r_istore_n dX5_keep_1 (Nat.le_of_ble_eq_true rfl) ?_
  refine eqP (P := fun z => Rch (mX5_keep, 1, 0, 0, oQ Q) 0 0 2 [some (.ref 0), some (.ref 112), some (.int (nI 0))] [] ((mC th kd ow ag lk co sh hs tp hd rl ro rf (z) ah tr od tk fo wi ou ge mo my ev se td fr to tn va im lo), r)) (ov_0 th 0 ol) ?_
  refine loopUp (N := 12) (P := fun k => Rch (mX5_keep, 1, 0, 0, oQ Q) 0 0 2 [some (.ref 0), some (.ref 112), some (.int (nI k))] [] ((mC th kd ow ag lk co sh hs tp hd rl ro rf (ovF th 0 k ol) ah tr od tk fo wi ou ge mo my ev se td fr to tn va im lo), r)) ?_ ?_
  · refine r_iload_n dX5_keep_2 rfl ?_
    refine r_bipush 12 dX5_keep_3 (by decide) ?_
    refine r_icmp_ge 23 dX5_keep_5 (by decide) (fun _ => ?_) (fun c_ => absurd (geT 12) c_)
    refine r_iconst 0 dX5_keep_23 (by decide) ?_
    refine r_istore_n dX5_keep_24 (Nat.le_of_ble_eq_true rfl) ?_
    refine eqP (P := fun z => Rch (mX5_keep, 1, 0, 0, oQ Q) 0 0 25 [some (.ref 0), some (.ref 112), some (.int (nI 0))] [] ((mC th kd ow ag lk co sh hs tp hd rl ro rf (z) ah tr od tk fo wi ou ge mo my ev se td fr to tn va im lo), r)) (k6_0 kd ow ag lk co sh (ovF th 0 12 ol)) ?_
    refine loopUp (N := 8) (P := fun k => Rch (mX5_keep, 1, 0, 0, oQ Q) 0 0 25 [some (.ref 0), some (.ref 112), some (.int (nI k))] [] ((mC th kd ow ag lk co sh hs tp hd rl ro rf (k6F kd ow ag lk co sh k (ovF th 0 12 ol)) ah tr od tk fo wi ou ge mo my ev se td fr to tn va im lo), r)) ?_ ?_
    · refine r_iload_n dX5_keep_25 rfl ?_
      refine r_bipush 8 dX5_keep_26 (by decide) ?_
      refine r_icmp_ge 109 dX5_keep_28 (by decide) (fun _ => ?_) (fun c_ => absurd (geT 8) c_)
      refine r_iconst 0 dX5_keep_109 (by decide) ?_
      refine r_istore_n dX5_keep_110 (Nat.le_of_ble_eq_true rfl) ?_
      refine eqP (P := fun z => Rch (mX5_keep, 1, 0, 0, oQ Q) 0 0 111 [some (.ref 0), some (.ref 112), some (.int (nI 0))] [] ((mC th kd ow ag lk co sh hs tp hd rl ro rf (z) ah tr od tk fo wi ou ge mo my ev se td fr to tn va im lo), r)) (ov_0 hs 60 (k6F kd ow ag lk co sh 8 (ovF th 0 12 ol))) ?_
      refine loopUp (N := 64) (P := fun k => Rch (mX5_keep, 1, 0, 0, oQ Q) 0 0 111 [some (.ref 0), some (.ref 112), some (.int (nI k))] [] ((mC th kd ow ag lk co sh hs tp hd rl ro rf (ovF hs 60 k (k6F kd ow ag lk co sh 8 (ovF th 0 12 ol))) ah tr od tk fo wi ou ge mo my ev se td fr to tn va im lo), r)) ?_ ?_
      · refine r_iload_n dX5_keep_111 rfl ?_
        refine r_bipush 64 dX5_keep_112 (by decide) ?_
        refine r_icmp_ge 135 dX5_keep_114 (by decide) (fun _ => ?_) (fun c_ => absurd (geT 64) c_)
        refine r_aload_n dX5_keep_135 rfl ?_
        refine r_bipush (nI 124) dX5_keep_136 (by decide) ?_
        refine r_aload_n dX5_keep_138 rfl ?_
        refine r_get bX5 1 (by decide) q1524 dX5_keep_139 rfl rfl ?_
        refine r_iastN dX5_keep_142 rfl (by omega) (Nat.le_of_ble_eq_true rfl) ?_
        refine r_aload_n dX5_keep_143 rfl ?_
        refine r_bipush (nI 125) dX5_keep_144 (by decide) ?_
        refine r_aload_n dX5_keep_146 rfl ?_
        refine r_get bX5 9 (by decide) q1532 dX5_keep_147 rfl rfl ?_
        refine r_iastN dX5_keep_150 rfl (by omega) (Nat.le_of_ble_eq_true rfl) ?_
        refine r_aload_n dX5_keep_151 rfl ?_
        refine r_bipush (nI 126) dX5_keep_152 (by decide) ?_
        refine r_aload_n dX5_keep_154 rfl ?_
        refine r_get bX5 10 (by decide) q1533 dX5_keep_155 rfl rfl ?_
        refine r_iastN dX5_keep_158 rfl (by omega) (Nat.le_of_ble_eq_true rfl) ?_
        exact r_vret dX5_keep_159 rfl (Nat.le_of_ble_eq_true rfl) (Nat.le_of_ble_eq_true rfl) (hQ)
      · intro k hk ih
        refine r_iload_n dX5_keep_111 rfl ?_
        refine r_bipush 64 dX5_keep_112 (by decide) ?_
        refine r_icmp_ge 135 dX5_keep_114 (by decide) (fun c_ => absurd c_ (geF hk (by decide))) (fun _ => ?_)
        refine r_aload_n dX5_keep_117 rfl ?_
        refine r_bipush (nI 60) dX5_keep_118 (by decide) ?_
        refine r_iload_n dX5_keep_120 rfl ?_
        refine r_iadd dX5_keep_121 ?_
        rw [nI_add]
        refine r_aload_n dX5_keep_122 rfl ?_
        refine r_get bX5 8 (by decide) q1531 dX5_keep_123 rfl rfl ?_
        refine r_iload_n dX5_keep_126 rfl ?_
        refine r_ialdN dX5_keep_127 rfl (by omega) (Nat.le_of_ble_eq_true rfl) ?_
        refine r_iastN dX5_keep_128 rfl (by omega) (Nat.le_of_ble_eq_true rfl) ?_
        refine r_iincV dX5_keep_129 rfl (Nat.le_of_ble_eq_true rfl) (incN _) ?_
        refine r_goto 111 dX5_keep_132 (by decide) ?_
        rw [← ov_up] at ih
        exact ih
    · intro k hk ih
      refine r_iload_n dX5_keep_25 rfl ?_
      refine r_bipush 8 dX5_keep_26 (by decide) ?_
      refine r_icmp_ge 109 dX5_keep_28 (by decide) (fun c_ => absurd c_ (geF hk (by decide))) (fun _ => ?_)
      refine r_aload_n dX5_keep_31 rfl ?_
      refine r_bipush (nI 12) dX5_keep_32 (by decide) ?_
      refine r_iload_n dX5_keep_34 rfl ?_
      refine r_iadd dX5_keep_35 ?_
      rw [nI_add]
      refine r_aload_n dX5_keep_36 rfl ?_
      refine r_get bX5 2 (by decide) q1525 dX5_keep_37 rfl rfl ?_
      refine r_iload_n dX5_keep_40 rfl ?_
      refine r_ialdN dX5_keep_41 rfl (by omega) (Nat.le_of_ble_eq_true rfl) ?_
      refine r_iastN dX5_keep_42 rfl (by omega) (Nat.le_of_ble_eq_true rfl) ?_
      refine r_aload_n dX5_keep_43 rfl ?_
      refine r_bipush (nI 20) dX5_keep_44 (by decide) ?_
      refine r_iload_n dX5_keep_46 rfl ?_
      refine r_iadd dX5_keep_47 ?_
      rw [nI_add]
      refine r_aload_n dX5_keep_48 rfl ?_
      refine r_get bX5 3 (by decide) q1526 dX5_keep_49 rfl rfl ?_
      refine r_iload_n dX5_keep_52 rfl ?_
      refine r_ialdN dX5_keep_53 rfl (by omega) (Nat.le_of_ble_eq_true rfl) ?_
      refine r_iastN dX5_keep_54 rfl (by omega) (Nat.le_of_ble_eq_true rfl) ?_
      refine r_aload_n dX5_keep_55 rfl ?_
      refine r_bipush (nI 28) dX5_keep_56 (by decide) ?_
      refine r_iload_n dX5_keep_58 rfl ?_
      refine r_iadd dX5_keep_59 ?_
      rw [nI_add]
      refine r_aload_n dX5_keep_60 rfl ?_
      refine r_get bX5 4 (by decide) q1527 dX5_keep_61 rfl rfl ?_
      refine r_iload_n dX5_keep_64 rfl ?_
      refine r_ialdN dX5_keep_65 rfl (by omega) (Nat.le_of_ble_eq_true rfl) ?_
      refine r_iastN dX5_keep_66 rfl (by omega) (Nat.le_of_ble_eq_true rfl) ?_
      refine r_aload_n dX5_keep_67 rfl ?_
      refine r_bipush (nI 36) dX5_keep_68 (by decide) ?_
      refine r_iload_n dX5_keep_70 rfl ?_
      refine r_iadd dX5_keep_71 ?_
      rw [nI_add]
      refine r_aload_n dX5_keep_72 rfl ?_
      refine r_get bX5 5 (by decide) q1528 dX5_keep_73 rfl rfl ?_
      refine r_iload_n dX5_keep_76 rfl ?_
      refine r_ialdN dX5_keep_77 rfl (by omega) (Nat.le_of_ble_eq_true rfl) ?_
      refine r_iastN dX5_keep_78 rfl (by omega) (Nat.le_of_ble_eq_true rfl) ?_
      refine r_aload_n dX5_keep_79 rfl ?_
      refine r_bipush (nI 44) dX5_keep_80 (by decide) ?_
      refine r_iload_n dX5_keep_82 rfl ?_
      refine r_iadd dX5_keep_83 ?_
      rw [nI_add]
      refine r_aload_n dX5_keep_84 rfl ?_
      refine r_get bX5 6 (by decide) q1529 dX5_keep_85 rfl rfl ?_
      refine r_iload_n dX5_keep_88 rfl ?_
      refine r_ialdN dX5_keep_89 rfl (by omega) (Nat.le_of_ble_eq_true rfl) ?_
      refine r_iastN dX5_keep_90 rfl (by omega) (Nat.le_of_ble_eq_true rfl) ?_
      refine r_aload_n dX5_keep_91 rfl ?_
      refine r_bipush (nI 52) dX5_keep_92 (by decide) ?_
      refine r_iload_n dX5_keep_94 rfl ?_
      refine r_iadd dX5_keep_95 ?_
      rw [nI_add]
      refine r_aload_n dX5_keep_96 rfl ?_
      refine r_get bX5 7 (by decide) q1530 dX5_keep_97 rfl rfl ?_
      refine r_iload_n dX5_keep_100 rfl ?_
      refine r_ialdN dX5_keep_101 rfl (by omega) (Nat.le_of_ble_eq_true rfl) ?_
      refine r_iastN dX5_keep_102 rfl (by omega) (Nat.le_of_ble_eq_true rfl) ?_
      refine r_iincV dX5_keep_103 rfl (Nat.le_of_ble_eq_true rfl) (incN _) ?_
      refine r_goto 25 dX5_keep_106 (by decide) ?_
      rw [← k6_up hk] at ih
      exact ih
  · intro k hk ih
    refine r_iload_n dX5_keep_2 rfl ?_
    refine r_bipush 12 dX5_keep_3 (by decide) ?_
    refine r_icmp_ge 23 dX5_keep_5 (by decide) (fun c_ => absurd c_ (geF hk (by decide))) (fun _ => ?_)
    refine r_aload_n dX5_keep_8 rfl ?_
    refine r_iload_n dX5_keep_9 rfl ?_
    refine r_aload_n dX5_keep_10 rfl ?_
    refine r_get bX5 0 (by decide) q1523 dX5_keep_11 rfl rfl ?_
    refine r_iload_n dX5_keep_14 rfl ?_
    refine r_ialdN dX5_keep_15 rfl (by omega) (Nat.le_of_ble_eq_true rfl) ?_
    refine r_iastN dX5_keep_16 rfl (by omega) (Nat.le_of_ble_eq_true rfl) ?_
    refine r_iincV dX5_keep_17 rfl (Nat.le_of_ble_eq_true rfl) (incN _) ?_
    refine r_goto 2 dX5_keep_20 (by decide) ?_
    rw [← ov_up0] at ih
    exact ih
theorem pX5_againO (hQ : Q none ((mC (ovF ol 0 12 th) (ovF (fun i => ol (12 + i)) 0 8 kd) (ovF (fun i => ol (20 + i)) 0 8 ow) (ovF (fun i => ol (28 + i)) 0 8 ag) (ovF (fun i => ol (36 + i)) 0 8 lk) (ovF (fun i => ol (44 + i)) 0 8 co) (ovF (fun i => ol (52 + i)) 0 8 sh) (ovF (fun i => ol (60 + i)) 0 64 hs) tp hd rl ro rf ol ah tr od tk fo wi ou ge mo (ol 124) (ol 125) (ol 126) td fr to tn va im lo), r)) : AMet mX5_again 1 0 0 [.ref 0, .ref 112] ((mC th kd ow ag lk co sh hs tp hd rl ro rf ol ah tr od tk fo wi ou ge mo my ev se td fr to tn va im lo), r) Q := by
  refine AMet.ofRch rfl rfl (Nat.le_of_ble_eq_true rfl) ?_
  refine r_iconst 0 dX5_again_0 (by decide) ?_
  refine r_istore_n dX5_again_1 (Nat.le_of_ble_eq_true rfl) ?_
  refine eqP (P := fun z => Rch (mX5_again, 1, 0, 0, oQ Q) 0 0 2 [some (.ref 0), some (.ref 112), some (.int (nI 0))] [] ((mC (z) kd ow ag lk co sh hs tp hd rl ro rf ol ah tr od tk fo wi ou ge mo my ev se td fr to tn va im lo), r)) (ov_0 ol 0 th) ?_
  refine loopUp (N := 12) (P := fun k => Rch (mX5_again, 1, 0, 0, oQ Q) 0 0 2 [some (.ref 0), some (.ref 112), some (.int (nI k))] [] ((mC (ovF ol 0 k th) kd ow ag lk co sh hs tp hd rl ro rf ol ah tr od tk fo wi ou ge mo my ev se td fr to tn va im lo), r)) ?_ ?_
  · refine r_iload_n dX5_again_2 rfl ?_
    refine r_bipush 12 dX5_again_3 (by decide) ?_
    refine r_icmp_ge 23 dX5_again_5 (by decide) (fun _ => ?_) (fun c_ => absurd (geT 12) c_)
    refine r_iconst 0 dX5_again_23 (by decide) ?_
    refine r_istore_n dX5_again_24 (Nat.le_of_ble_eq_true rfl) ?_
    have e : Rch (mX5_again, 1, 0, 0, oQ Q) 0 0 25 [some (.ref 0), some (.ref 112), some (.int (nI 0))] [] ((mC (ovF ol 0 12 th) (ovF (fun i => ol (12 + i)) 0 0 kd) (ovF (fun i => ol (20 + i)) 0 0 ow) (ovF (fun i => ol (28 + i)) 0 0 ag) (ovF (fun i => ol (36 + i)) 0 0 lk) (ovF (fun i => ol (44 + i)) 0 0 co) (ovF (fun i => ol (52 + i)) 0 0 sh) hs tp hd rl ro rf ol ah tr od tk fo wi ou ge mo my ev se td fr to tn va im lo), r) := by
      refine loopUp (N := 8) (P := fun k => Rch (mX5_again, 1, 0, 0, oQ Q) 0 0 25 [some (.ref 0), some (.ref 112), some (.int (nI k))] [] ((mC (ovF ol 0 12 th) (ovF (fun i => ol (12 + i)) 0 k kd) (ovF (fun i => ol (20 + i)) 0 k ow) (ovF (fun i => ol (28 + i)) 0 k ag) (ovF (fun i => ol (36 + i)) 0 k lk) (ovF (fun i => ol (44 + i)) 0 k co) (ovF (fun i => ol (52 + i)) 0 k sh) hs tp hd rl ro rf ol ah tr od tk fo wi ou ge mo my ev se td fr to tn va im lo), r)) ?_ ?_
      · refine r_iload_n dX5_again_25 rfl ?_
        refine r_bipush 8 dX5_again_26 (by decide) ?_
        refine r_icmp_ge 109 dX5_again_28 (by decide) (fun _ => ?_) (fun c_ => absurd (geT 8) c_)
        refine r_iconst 0 dX5_again_109 (by decide) ?_
        refine r_istore_n dX5_again_110 (Nat.le_of_ble_eq_true rfl) ?_
        refine eqP (P := fun z => Rch (mX5_again, 1, 0, 0, oQ Q) 0 0 111 [some (.ref 0), some (.ref 112), some (.int (nI 0))] [] ((mC (ovF ol 0 12 th) (ovF (fun i => ol (12 + i)) 0 8 kd) (ovF (fun i => ol (20 + i)) 0 8 ow) (ovF (fun i => ol (28 + i)) 0 8 ag) (ovF (fun i => ol (36 + i)) 0 8 lk) (ovF (fun i => ol (44 + i)) 0 8 co) (ovF (fun i => ol (52 + i)) 0 8 sh) (z) tp hd rl ro rf ol ah tr od tk fo wi ou ge mo my ev se td fr to tn va im lo), r)) (ov_0 (fun i => ol (60 + i)) 0 hs) ?_
        refine loopUp (N := 64) (P := fun k => Rch (mX5_again, 1, 0, 0, oQ Q) 0 0 111 [some (.ref 0), some (.ref 112), some (.int (nI k))] [] ((mC (ovF ol 0 12 th) (ovF (fun i => ol (12 + i)) 0 8 kd) (ovF (fun i => ol (20 + i)) 0 8 ow) (ovF (fun i => ol (28 + i)) 0 8 ag) (ovF (fun i => ol (36 + i)) 0 8 lk) (ovF (fun i => ol (44 + i)) 0 8 co) (ovF (fun i => ol (52 + i)) 0 8 sh) (ovF (fun i => ol (60 + i)) 0 k hs) tp hd rl ro rf ol ah tr od tk fo wi ou ge mo my ev se td fr to tn va im lo), r)) ?_ ?_
        · refine r_iload_n dX5_again_111 rfl ?_
          refine r_bipush 64 dX5_again_112 (by decide) ?_
          refine r_icmp_ge 135 dX5_again_114 (by decide) (fun _ => ?_) (fun c_ => absurd (geT 64) c_)
          refine r_aload_n dX5_again_135 rfl ?_
          refine r_aload_n dX5_again_136 rfl ?_
          refine r_bipush (nI 124) dX5_again_137 (by decide) ?_
          refine r_ialdN dX5_again_139 rfl (by omega) (Nat.le_of_ble_eq_true rfl) ?_
          refine r_put bX5 1 (by decide) rfl q1524 dX5_again_140 rfl rfl rfl (Nat.le_of_ble_eq_true rfl) ?_
          refine r_aload_n dX5_again_143 rfl ?_
          refine r_aload_n dX5_again_144 rfl ?_
          refine r_bipush (nI 125) dX5_again_145 (by decide) ?_
          refine r_ialdN dX5_again_147 rfl (by omega) (Nat.le_of_ble_eq_true rfl) ?_
          refine r_put bX5 9 (by decide) rfl q1532 dX5_again_148 rfl rfl rfl (Nat.le_of_ble_eq_true rfl) ?_
          refine r_aload_n dX5_again_151 rfl ?_
          refine r_aload_n dX5_again_152 rfl ?_
          refine r_bipush (nI 126) dX5_again_153 (by decide) ?_
          refine r_ialdN dX5_again_155 rfl (by omega) (Nat.le_of_ble_eq_true rfl) ?_
          refine r_put bX5 10 (by decide) rfl q1533 dX5_again_156 rfl rfl rfl (Nat.le_of_ble_eq_true rfl) ?_
          exact r_vret dX5_again_159 rfl (Nat.le_of_ble_eq_true rfl) (Nat.le_of_ble_eq_true rfl) (hQ)
        · intro k hk ih
          refine r_iload_n dX5_again_111 rfl ?_
          refine r_bipush 64 dX5_again_112 (by decide) ?_
          refine r_icmp_ge 135 dX5_again_114 (by decide) (fun c_ => absurd c_ (geF hk (by decide))) (fun _ => ?_)
          refine r_aload_n dX5_again_117 rfl ?_
          refine r_get bX5 8 (by decide) q1531 dX5_again_118 rfl rfl ?_
          refine r_iload_n dX5_again_121 rfl ?_
          refine r_aload_n dX5_again_122 rfl ?_
          refine r_bipush (nI 60) dX5_again_123 (by decide) ?_
          refine r_iload_n dX5_again_125 rfl ?_
          refine r_iadd dX5_again_126 ?_
          rw [nI_add]
          refine r_ialdN dX5_again_127 rfl (by omega) (Nat.le_of_ble_eq_true rfl) ?_
          refine r_iastN dX5_again_128 rfl (by omega) (Nat.le_of_ble_eq_true rfl) ?_
          refine r_iincV dX5_again_129 rfl (Nat.le_of_ble_eq_true rfl) (incN _) ?_
          refine r_goto 111 dX5_again_132 (by decide) ?_
          rw [← ov_up0 (fun i => ol (60 + i)) k] at ih
          exact ih
      · intro k hk ih
        refine r_iload_n dX5_again_25 rfl ?_
        refine r_bipush 8 dX5_again_26 (by decide) ?_
        refine r_icmp_ge 109 dX5_again_28 (by decide) (fun c_ => absurd c_ (geF hk (by decide))) (fun _ => ?_)
        refine r_aload_n dX5_again_31 rfl ?_
        refine r_get bX5 2 (by decide) q1525 dX5_again_32 rfl rfl ?_
        refine r_iload_n dX5_again_35 rfl ?_
        refine r_aload_n dX5_again_36 rfl ?_
        refine r_bipush (nI 12) dX5_again_37 (by decide) ?_
        refine r_iload_n dX5_again_39 rfl ?_
        refine r_iadd dX5_again_40 ?_
        rw [nI_add]
        refine r_ialdN dX5_again_41 rfl (by omega) (Nat.le_of_ble_eq_true rfl) ?_
        refine r_iastN dX5_again_42 rfl (by omega) (Nat.le_of_ble_eq_true rfl) ?_
        refine r_aload_n dX5_again_43 rfl ?_
        refine r_get bX5 3 (by decide) q1526 dX5_again_44 rfl rfl ?_
        refine r_iload_n dX5_again_47 rfl ?_
        refine r_aload_n dX5_again_48 rfl ?_
        refine r_bipush (nI 20) dX5_again_49 (by decide) ?_
        refine r_iload_n dX5_again_51 rfl ?_
        refine r_iadd dX5_again_52 ?_
        rw [nI_add]
        refine r_ialdN dX5_again_53 rfl (by omega) (Nat.le_of_ble_eq_true rfl) ?_
        refine r_iastN dX5_again_54 rfl (by omega) (Nat.le_of_ble_eq_true rfl) ?_
        refine r_aload_n dX5_again_55 rfl ?_
        refine r_get bX5 4 (by decide) q1527 dX5_again_56 rfl rfl ?_
        refine r_iload_n dX5_again_59 rfl ?_
        refine r_aload_n dX5_again_60 rfl ?_
        refine r_bipush (nI 28) dX5_again_61 (by decide) ?_
        refine r_iload_n dX5_again_63 rfl ?_
        refine r_iadd dX5_again_64 ?_
        rw [nI_add]
        refine r_ialdN dX5_again_65 rfl (by omega) (Nat.le_of_ble_eq_true rfl) ?_
        refine r_iastN dX5_again_66 rfl (by omega) (Nat.le_of_ble_eq_true rfl) ?_
        refine r_aload_n dX5_again_67 rfl ?_
        refine r_get bX5 5 (by decide) q1528 dX5_again_68 rfl rfl ?_
        refine r_iload_n dX5_again_71 rfl ?_
        refine r_aload_n dX5_again_72 rfl ?_
        refine r_bipush (nI 36) dX5_again_73 (by decide) ?_
        refine r_iload_n dX5_again_75 rfl ?_
        refine r_iadd dX5_again_76 ?_
        rw [nI_add]
        refine r_ialdN dX5_again_77 rfl (by omega) (Nat.le_of_ble_eq_true rfl) ?_
        refine r_iastN dX5_again_78 rfl (by omega) (Nat.le_of_ble_eq_true rfl) ?_
        refine r_aload_n dX5_again_79 rfl ?_
        refine r_get bX5 6 (by decide) q1529 dX5_again_80 rfl rfl ?_
        refine r_iload_n dX5_again_83 rfl ?_
        refine r_aload_n dX5_again_84 rfl ?_
        refine r_bipush (nI 44) dX5_again_85 (by decide) ?_
        refine r_iload_n dX5_again_87 rfl ?_
        refine r_iadd dX5_again_88 ?_
        rw [nI_add]
        refine r_ialdN dX5_again_89 rfl (by omega) (Nat.le_of_ble_eq_true rfl) ?_
        refine r_iastN dX5_again_90 rfl (by omega) (Nat.le_of_ble_eq_true rfl) ?_
        refine r_aload_n dX5_again_91 rfl ?_
        refine r_get bX5 7 (by decide) q1530 dX5_again_92 rfl rfl ?_
        refine r_iload_n dX5_again_95 rfl ?_
        refine r_aload_n dX5_again_96 rfl ?_
        refine r_bipush (nI 52) dX5_again_97 (by decide) ?_
        refine r_iload_n dX5_again_99 rfl ?_
        refine r_iadd dX5_again_100 ?_
        rw [nI_add]
        refine r_ialdN dX5_again_101 rfl (by omega) (Nat.le_of_ble_eq_true rfl) ?_
        refine r_iastN dX5_again_102 rfl (by omega) (Nat.le_of_ble_eq_true rfl) ?_
        refine r_iincV dX5_again_103 rfl (Nat.le_of_ble_eq_true rfl) (incN _) ?_
        refine r_goto 25 dX5_again_106 (by decide) ?_
        rw [← ov_up0 (fun i => ol (12 + i)) k, ← ov_up0 (fun i => ol (20 + i)) k, ← ov_up0 (fun i => ol (28 + i)) k, ← ov_up0 (fun i => ol (36 + i)) k, ← ov_up0 (fun i => ol (44 + i)) k, ← ov_up0 (fun i => ol (52 + i)) k] at ih
        exact ih
    simp only [ov_0] at e
    exact e
  · intro k hk ih
    refine r_iload_n dX5_again_2 rfl ?_
    refine r_bipush 12 dX5_again_3 (by decide) ?_
    refine r_icmp_ge 23 dX5_again_5 (by decide) (fun c_ => absurd c_ (geF hk (by decide))) (fun _ => ?_)
    refine r_aload_n dX5_again_8 rfl ?_
    refine r_get bX5 0 (by decide) q1523 dX5_again_9 rfl rfl ?_
    refine r_iload_n dX5_again_12 rfl ?_
    refine r_aload_n dX5_again_13 rfl ?_
    refine r_iload_n dX5_again_14 rfl ?_
    refine r_ialdN dX5_again_15 rfl (by omega) (Nat.le_of_ble_eq_true rfl) ?_
    refine r_iastN dX5_again_16 rfl (by omega) (Nat.le_of_ble_eq_true rfl) ?_
    refine r_iincV dX5_again_17 rfl (Nat.le_of_ble_eq_true rfl) (incN _) ?_
    refine r_goto 2 dX5_again_20 (by decide) ?_
    rw [← ov_up0] at ih
    exact ih
theorem pX5_keepA (hQ : Q none ((mC th kd ow ag lk co sh hs tp hd rl ro rf ol (kpF th kd ow ag lk co sh hs my ev se ah) tr od tk fo wi ou ge mo my ev se td fr to tn va im lo), r)) : AMet mX5_keep 1 0 0 [.ref 0, .ref 120] ((mC th kd ow ag lk co sh hs tp hd rl ro rf ol ah tr od tk fo wi ou ge mo my ev se td fr to tn va im lo), r) Q := by
  refine AMet.ofRch rfl rfl (Nat.le_of_ble_eq_true rfl) ?_
  refine r_iconst 0 dX5_keep_0 (by decide) ?_
  refine r_istore_n dX5_keep_1 (Nat.le_of_ble_eq_true rfl) ?_
  refine eqP (P := fun z => Rch (mX5_keep, 1, 0, 0, oQ Q) 0 0 2 [some (.ref 0), some (.ref 120), some (.int (nI 0))] [] ((mC th kd ow ag lk co sh hs tp hd rl ro rf ol (z) tr od tk fo wi ou ge mo my ev se td fr to tn va im lo), r)) (ov_0 th 0 ah) ?_
  refine loopUp (N := 12) (P := fun k => Rch (mX5_keep, 1, 0, 0, oQ Q) 0 0 2 [some (.ref 0), some (.ref 120), some (.int (nI k))] [] ((mC th kd ow ag lk co sh hs tp hd rl ro rf ol (ovF th 0 k ah) tr od tk fo wi ou ge mo my ev se td fr to tn va im lo), r)) ?_ ?_
  · refine r_iload_n dX5_keep_2 rfl ?_
    refine r_bipush 12 dX5_keep_3 (by decide) ?_
    refine r_icmp_ge 23 dX5_keep_5 (by decide) (fun _ => ?_) (fun c_ => absurd (geT 12) c_)
    refine r_iconst 0 dX5_keep_23 (by decide) ?_
    refine r_istore_n dX5_keep_24 (Nat.le_of_ble_eq_true rfl) ?_
    refine eqP (P := fun z => Rch (mX5_keep, 1, 0, 0, oQ Q) 0 0 25 [some (.ref 0), some (.ref 120), some (.int (nI 0))] [] ((mC th kd ow ag lk co sh hs tp hd rl ro rf ol (z) tr od tk fo wi ou ge mo my ev se td fr to tn va im lo), r)) (k6_0 kd ow ag lk co sh (ovF th 0 12 ah)) ?_
    refine loopUp (N := 8) (P := fun k => Rch (mX5_keep, 1, 0, 0, oQ Q) 0 0 25 [some (.ref 0), some (.ref 120), some (.int (nI k))] [] ((mC th kd ow ag lk co sh hs tp hd rl ro rf ol (k6F kd ow ag lk co sh k (ovF th 0 12 ah)) tr od tk fo wi ou ge mo my ev se td fr to tn va im lo), r)) ?_ ?_
    · refine r_iload_n dX5_keep_25 rfl ?_
      refine r_bipush 8 dX5_keep_26 (by decide) ?_
      refine r_icmp_ge 109 dX5_keep_28 (by decide) (fun _ => ?_) (fun c_ => absurd (geT 8) c_)
      refine r_iconst 0 dX5_keep_109 (by decide) ?_
      refine r_istore_n dX5_keep_110 (Nat.le_of_ble_eq_true rfl) ?_
      refine eqP (P := fun z => Rch (mX5_keep, 1, 0, 0, oQ Q) 0 0 111 [some (.ref 0), some (.ref 120), some (.int (nI 0))] [] ((mC th kd ow ag lk co sh hs tp hd rl ro rf ol (z) tr od tk fo wi ou ge mo my ev se td fr to tn va im lo), r)) (ov_0 hs 60 (k6F kd ow ag lk co sh 8 (ovF th 0 12 ah))) ?_
      refine loopUp (N := 64) (P := fun k => Rch (mX5_keep, 1, 0, 0, oQ Q) 0 0 111 [some (.ref 0), some (.ref 120), some (.int (nI k))] [] ((mC th kd ow ag lk co sh hs tp hd rl ro rf ol (ovF hs 60 k (k6F kd ow ag lk co sh 8 (ovF th 0 12 ah))) tr od tk fo wi ou ge mo my ev se td fr to tn va im lo), r)) ?_ ?_
      · refine r_iload_n dX5_keep_111 rfl ?_
        refine r_bipush 64 dX5_keep_112 (by decide) ?_
        refine r_icmp_ge 135 dX5_keep_114 (by decide) (fun _ => ?_) (fun c_ => absurd (geT 64) c_)
        refine r_aload_n dX5_keep_135 rfl ?_
        refine r_bipush (nI 124) dX5_keep_136 (by decide) ?_
        refine r_aload_n dX5_keep_138 rfl ?_
        refine r_get bX5 1 (by decide) q1524 dX5_keep_139 rfl rfl ?_
        refine r_iastN dX5_keep_142 rfl (by omega) (Nat.le_of_ble_eq_true rfl) ?_
        refine r_aload_n dX5_keep_143 rfl ?_
        refine r_bipush (nI 125) dX5_keep_144 (by decide) ?_
        refine r_aload_n dX5_keep_146 rfl ?_
        refine r_get bX5 9 (by decide) q1532 dX5_keep_147 rfl rfl ?_
        refine r_iastN dX5_keep_150 rfl (by omega) (Nat.le_of_ble_eq_true rfl) ?_
        refine r_aload_n dX5_keep_151 rfl ?_
        refine r_bipush (nI 126) dX5_keep_152 (by decide) ?_
        refine r_aload_n dX5_keep_154 rfl ?_
        refine r_get bX5 10 (by decide) q1533 dX5_keep_155 rfl rfl ?_
        refine r_iastN dX5_keep_158 rfl (by omega) (Nat.le_of_ble_eq_true rfl) ?_
        exact r_vret dX5_keep_159 rfl (Nat.le_of_ble_eq_true rfl) (Nat.le_of_ble_eq_true rfl) (hQ)
      · intro k hk ih
        refine r_iload_n dX5_keep_111 rfl ?_
        refine r_bipush 64 dX5_keep_112 (by decide) ?_
        refine r_icmp_ge 135 dX5_keep_114 (by decide) (fun c_ => absurd c_ (geF hk (by decide))) (fun _ => ?_)
        refine r_aload_n dX5_keep_117 rfl ?_
        refine r_bipush (nI 60) dX5_keep_118 (by decide) ?_
        refine r_iload_n dX5_keep_120 rfl ?_
        refine r_iadd dX5_keep_121 ?_
        rw [nI_add]
        refine r_aload_n dX5_keep_122 rfl ?_
        refine r_get bX5 8 (by decide) q1531 dX5_keep_123 rfl rfl ?_
        refine r_iload_n dX5_keep_126 rfl ?_
        refine r_ialdN dX5_keep_127 rfl (by omega) (Nat.le_of_ble_eq_true rfl) ?_
        refine r_iastN dX5_keep_128 rfl (by omega) (Nat.le_of_ble_eq_true rfl) ?_
        refine r_iincV dX5_keep_129 rfl (Nat.le_of_ble_eq_true rfl) (incN _) ?_
        refine r_goto 111 dX5_keep_132 (by decide) ?_
        rw [← ov_up] at ih
        exact ih
    · intro k hk ih
      refine r_iload_n dX5_keep_25 rfl ?_
      refine r_bipush 8 dX5_keep_26 (by decide) ?_
      refine r_icmp_ge 109 dX5_keep_28 (by decide) (fun c_ => absurd c_ (geF hk (by decide))) (fun _ => ?_)
      refine r_aload_n dX5_keep_31 rfl ?_
      refine r_bipush (nI 12) dX5_keep_32 (by decide) ?_
      refine r_iload_n dX5_keep_34 rfl ?_
      refine r_iadd dX5_keep_35 ?_
      rw [nI_add]
      refine r_aload_n dX5_keep_36 rfl ?_
      refine r_get bX5 2 (by decide) q1525 dX5_keep_37 rfl rfl ?_
      refine r_iload_n dX5_keep_40 rfl ?_
      refine r_ialdN dX5_keep_41 rfl (by omega) (Nat.le_of_ble_eq_true rfl) ?_
      refine r_iastN dX5_keep_42 rfl (by omega) (Nat.le_of_ble_eq_true rfl) ?_
      refine r_aload_n dX5_keep_43 rfl ?_
      refine r_bipush (nI 20) dX5_keep_44 (by decide) ?_
      refine r_iload_n dX5_keep_46 rfl ?_
      refine r_iadd dX5_keep_47 ?_
      rw [nI_add]
      refine r_aload_n dX5_keep_48 rfl ?_
      refine r_get bX5 3 (by decide) q1526 dX5_keep_49 rfl rfl ?_
      refine r_iload_n dX5_keep_52 rfl ?_
      refine r_ialdN dX5_keep_53 rfl (by omega) (Nat.le_of_ble_eq_true rfl) ?_
      refine r_iastN dX5_keep_54 rfl (by omega) (Nat.le_of_ble_eq_true rfl) ?_
      refine r_aload_n dX5_keep_55 rfl ?_
      refine r_bipush (nI 28) dX5_keep_56 (by decide) ?_
      refine r_iload_n dX5_keep_58 rfl ?_
      refine r_iadd dX5_keep_59 ?_
      rw [nI_add]
      refine r_aload_n dX5_keep_60 rfl ?_
      refine r_get bX5 4 (by decide) q1527 dX5_keep_61 rfl rfl ?_
      refine r_iload_n dX5_keep_64 rfl ?_
      refine r_ialdN dX5_keep_65 rfl (by omega) (Nat.le_of_ble_eq_true rfl) ?_
      refine r_iastN dX5_keep_66 rfl (by omega) (Nat.le_of_ble_eq_true rfl) ?_
      refine r_aload_n dX5_keep_67 rfl ?_
      refine r_bipush (nI 36) dX5_keep_68 (by decide) ?_
      refine r_iload_n dX5_keep_70 rfl ?_
      refine r_iadd dX5_keep_71 ?_
      rw [nI_add]
      refine r_aload_n dX5_keep_72 rfl ?_
      refine r_get bX5 5 (by decide) q1528 dX5_keep_73 rfl rfl ?_
      refine r_iload_n dX5_keep_76 rfl ?_
      refine r_ialdN dX5_keep_77 rfl (by omega) (Nat.le_of_ble_eq_true rfl) ?_
      refine r_iastN dX5_keep_78 rfl (by omega) (Nat.le_of_ble_eq_true rfl) ?_
      refine r_aload_n dX5_keep_79 rfl ?_
      refine r_bipush (nI 44) dX5_keep_80 (by decide) ?_
      refine r_iload_n dX5_keep_82 rfl ?_
      refine r_iadd dX5_keep_83 ?_
      rw [nI_add]
      refine r_aload_n dX5_keep_84 rfl ?_
      refine r_get bX5 6 (by decide) q1529 dX5_keep_85 rfl rfl ?_
      refine r_iload_n dX5_keep_88 rfl ?_
      refine r_ialdN dX5_keep_89 rfl (by omega) (Nat.le_of_ble_eq_true rfl) ?_
      refine r_iastN dX5_keep_90 rfl (by omega) (Nat.le_of_ble_eq_true rfl) ?_
      refine r_aload_n dX5_keep_91 rfl ?_
      refine r_bipush (nI 52) dX5_keep_92 (by decide) ?_
      refine r_iload_n dX5_keep_94 rfl ?_
      refine r_iadd dX5_keep_95 ?_
      rw [nI_add]
      refine r_aload_n dX5_keep_96 rfl ?_
      refine r_get bX5 7 (by decide) q1530 dX5_keep_97 rfl rfl ?_
      refine r_iload_n dX5_keep_100 rfl ?_
      refine r_ialdN dX5_keep_101 rfl (by omega) (Nat.le_of_ble_eq_true rfl) ?_
      refine r_iastN dX5_keep_102 rfl (by omega) (Nat.le_of_ble_eq_true rfl) ?_
      refine r_iincV dX5_keep_103 rfl (Nat.le_of_ble_eq_true rfl) (incN _) ?_
      refine r_goto 25 dX5_keep_106 (by decide) ?_
      rw [← k6_up hk] at ih
      exact ih
  · intro k hk ih
    refine r_iload_n dX5_keep_2 rfl ?_
    refine r_bipush 12 dX5_keep_3 (by decide) ?_
    refine r_icmp_ge 23 dX5_keep_5 (by decide) (fun c_ => absurd c_ (geF hk (by decide))) (fun _ => ?_)
    refine r_aload_n dX5_keep_8 rfl ?_
    refine r_iload_n dX5_keep_9 rfl ?_
    refine r_aload_n dX5_keep_10 rfl ?_
    refine r_get bX5 0 (by decide) q1523 dX5_keep_11 rfl rfl ?_
    refine r_iload_n dX5_keep_14 rfl ?_
    refine r_ialdN dX5_keep_15 rfl (by omega) (Nat.le_of_ble_eq_true rfl) ?_
    refine r_iastN dX5_keep_16 rfl (by omega) (Nat.le_of_ble_eq_true rfl) ?_
    refine r_iincV dX5_keep_17 rfl (Nat.le_of_ble_eq_true rfl) (incN _) ?_
    refine r_goto 2 dX5_keep_20 (by decide) ?_
    rw [← ov_up0] at ih
    exact ih
theorem pX5_againA (hQ : Q none ((mC (ovF ah 0 12 th) (ovF (fun i => ah (12 + i)) 0 8 kd) (ovF (fun i => ah (20 + i)) 0 8 ow) (ovF (fun i => ah (28 + i)) 0 8 ag) (ovF (fun i => ah (36 + i)) 0 8 lk) (ovF (fun i => ah (44 + i)) 0 8 co) (ovF (fun i => ah (52 + i)) 0 8 sh) (ovF (fun i => ah (60 + i)) 0 64 hs) tp hd rl ro rf ol ah tr od tk fo wi ou ge mo (ah 124) (ah 125) (ah 126) td fr to tn va im lo), r)) : AMet mX5_again 1 0 0 [.ref 0, .ref 120] ((mC th kd ow ag lk co sh hs tp hd rl ro rf ol ah tr od tk fo wi ou ge mo my ev se td fr to tn va im lo), r) Q := by
  refine AMet.ofRch rfl rfl (Nat.le_of_ble_eq_true rfl) ?_
  refine r_iconst 0 dX5_again_0 (by decide) ?_
  refine r_istore_n dX5_again_1 (Nat.le_of_ble_eq_true rfl) ?_
  refine eqP (P := fun z => Rch (mX5_again, 1, 0, 0, oQ Q) 0 0 2 [some (.ref 0), some (.ref 120), some (.int (nI 0))] [] ((mC (z) kd ow ag lk co sh hs tp hd rl ro rf ol ah tr od tk fo wi ou ge mo my ev se td fr to tn va im lo), r)) (ov_0 ah 0 th) ?_
  refine loopUp (N := 12) (P := fun k => Rch (mX5_again, 1, 0, 0, oQ Q) 0 0 2 [some (.ref 0), some (.ref 120), some (.int (nI k))] [] ((mC (ovF ah 0 k th) kd ow ag lk co sh hs tp hd rl ro rf ol ah tr od tk fo wi ou ge mo my ev se td fr to tn va im lo), r)) ?_ ?_
  · refine r_iload_n dX5_again_2 rfl ?_
    refine r_bipush 12 dX5_again_3 (by decide) ?_
    refine r_icmp_ge 23 dX5_again_5 (by decide) (fun _ => ?_) (fun c_ => absurd (geT 12) c_)
    refine r_iconst 0 dX5_again_23 (by decide) ?_
    refine r_istore_n dX5_again_24 (Nat.le_of_ble_eq_true rfl) ?_
    have e : Rch (mX5_again, 1, 0, 0, oQ Q) 0 0 25 [some (.ref 0), some (.ref 120), some (.int (nI 0))] [] ((mC (ovF ah 0 12 th) (ovF (fun i => ah (12 + i)) 0 0 kd) (ovF (fun i => ah (20 + i)) 0 0 ow) (ovF (fun i => ah (28 + i)) 0 0 ag) (ovF (fun i => ah (36 + i)) 0 0 lk) (ovF (fun i => ah (44 + i)) 0 0 co) (ovF (fun i => ah (52 + i)) 0 0 sh) hs tp hd rl ro rf ol ah tr od tk fo wi ou ge mo my ev se td fr to tn va im lo), r) := by
      refine loopUp (N := 8) (P := fun k => Rch (mX5_again, 1, 0, 0, oQ Q) 0 0 25 [some (.ref 0), some (.ref 120), some (.int (nI k))] [] ((mC (ovF ah 0 12 th) (ovF (fun i => ah (12 + i)) 0 k kd) (ovF (fun i => ah (20 + i)) 0 k ow) (ovF (fun i => ah (28 + i)) 0 k ag) (ovF (fun i => ah (36 + i)) 0 k lk) (ovF (fun i => ah (44 + i)) 0 k co) (ovF (fun i => ah (52 + i)) 0 k sh) hs tp hd rl ro rf ol ah tr od tk fo wi ou ge mo my ev se td fr to tn va im lo), r)) ?_ ?_
      · refine r_iload_n dX5_again_25 rfl ?_
        refine r_bipush 8 dX5_again_26 (by decide) ?_
        refine r_icmp_ge 109 dX5_again_28 (by decide) (fun _ => ?_) (fun c_ => absurd (geT 8) c_)
        refine r_iconst 0 dX5_again_109 (by decide) ?_
        refine r_istore_n dX5_again_110 (Nat.le_of_ble_eq_true rfl) ?_
        refine eqP (P := fun z => Rch (mX5_again, 1, 0, 0, oQ Q) 0 0 111 [some (.ref 0), some (.ref 120), some (.int (nI 0))] [] ((mC (ovF ah 0 12 th) (ovF (fun i => ah (12 + i)) 0 8 kd) (ovF (fun i => ah (20 + i)) 0 8 ow) (ovF (fun i => ah (28 + i)) 0 8 ag) (ovF (fun i => ah (36 + i)) 0 8 lk) (ovF (fun i => ah (44 + i)) 0 8 co) (ovF (fun i => ah (52 + i)) 0 8 sh) (z) tp hd rl ro rf ol ah tr od tk fo wi ou ge mo my ev se td fr to tn va im lo), r)) (ov_0 (fun i => ah (60 + i)) 0 hs) ?_
        refine loopUp (N := 64) (P := fun k => Rch (mX5_again, 1, 0, 0, oQ Q) 0 0 111 [some (.ref 0), some (.ref 120), some (.int (nI k))] [] ((mC (ovF ah 0 12 th) (ovF (fun i => ah (12 + i)) 0 8 kd) (ovF (fun i => ah (20 + i)) 0 8 ow) (ovF (fun i => ah (28 + i)) 0 8 ag) (ovF (fun i => ah (36 + i)) 0 8 lk) (ovF (fun i => ah (44 + i)) 0 8 co) (ovF (fun i => ah (52 + i)) 0 8 sh) (ovF (fun i => ah (60 + i)) 0 k hs) tp hd rl ro rf ol ah tr od tk fo wi ou ge mo my ev se td fr to tn va im lo), r)) ?_ ?_
        · refine r_iload_n dX5_again_111 rfl ?_
          refine r_bipush 64 dX5_again_112 (by decide) ?_
          refine r_icmp_ge 135 dX5_again_114 (by decide) (fun _ => ?_) (fun c_ => absurd (geT 64) c_)
          refine r_aload_n dX5_again_135 rfl ?_
          refine r_aload_n dX5_again_136 rfl ?_
          refine r_bipush (nI 124) dX5_again_137 (by decide) ?_
          refine r_ialdN dX5_again_139 rfl (by omega) (Nat.le_of_ble_eq_true rfl) ?_
          refine r_put bX5 1 (by decide) rfl q1524 dX5_again_140 rfl rfl rfl (Nat.le_of_ble_eq_true rfl) ?_
          refine r_aload_n dX5_again_143 rfl ?_
          refine r_aload_n dX5_again_144 rfl ?_
          refine r_bipush (nI 125) dX5_again_145 (by decide) ?_
          refine r_ialdN dX5_again_147 rfl (by omega) (Nat.le_of_ble_eq_true rfl) ?_
          refine r_put bX5 9 (by decide) rfl q1532 dX5_again_148 rfl rfl rfl (Nat.le_of_ble_eq_true rfl) ?_
          refine r_aload_n dX5_again_151 rfl ?_
          refine r_aload_n dX5_again_152 rfl ?_
          refine r_bipush (nI 126) dX5_again_153 (by decide) ?_
          refine r_ialdN dX5_again_155 rfl (by omega) (Nat.le_of_ble_eq_true rfl) ?_
          refine r_put bX5 10 (by decide) rfl q1533 dX5_again_156 rfl rfl rfl (Nat.le_of_ble_eq_true rfl) ?_
          exact r_vret dX5_again_159 rfl (Nat.le_of_ble_eq_true rfl) (Nat.le_of_ble_eq_true rfl) (hQ)
        · intro k hk ih
          refine r_iload_n dX5_again_111 rfl ?_
          refine r_bipush 64 dX5_again_112 (by decide) ?_
          refine r_icmp_ge 135 dX5_again_114 (by decide) (fun c_ => absurd c_ (geF hk (by decide))) (fun _ => ?_)
          refine r_aload_n dX5_again_117 rfl ?_
          refine r_get bX5 8 (by decide) q1531 dX5_again_118 rfl rfl ?_
          refine r_iload_n dX5_again_121 rfl ?_
          refine r_aload_n dX5_again_122 rfl ?_
          refine r_bipush (nI 60) dX5_again_123 (by decide) ?_
          refine r_iload_n dX5_again_125 rfl ?_
          refine r_iadd dX5_again_126 ?_
          rw [nI_add]
          refine r_ialdN dX5_again_127 rfl (by omega) (Nat.le_of_ble_eq_true rfl) ?_
          refine r_iastN dX5_again_128 rfl (by omega) (Nat.le_of_ble_eq_true rfl) ?_
          refine r_iincV dX5_again_129 rfl (Nat.le_of_ble_eq_true rfl) (incN _) ?_
          refine r_goto 111 dX5_again_132 (by decide) ?_
          rw [← ov_up0 (fun i => ah (60 + i)) k] at ih
          exact ih
      · intro k hk ih
        refine r_iload_n dX5_again_25 rfl ?_
        refine r_bipush 8 dX5_again_26 (by decide) ?_
        refine r_icmp_ge 109 dX5_again_28 (by decide) (fun c_ => absurd c_ (geF hk (by decide))) (fun _ => ?_)
        refine r_aload_n dX5_again_31 rfl ?_
        refine r_get bX5 2 (by decide) q1525 dX5_again_32 rfl rfl ?_
        refine r_iload_n dX5_again_35 rfl ?_
        refine r_aload_n dX5_again_36 rfl ?_
        refine r_bipush (nI 12) dX5_again_37 (by decide) ?_
        refine r_iload_n dX5_again_39 rfl ?_
        refine r_iadd dX5_again_40 ?_
        rw [nI_add]
        refine r_ialdN dX5_again_41 rfl (by omega) (Nat.le_of_ble_eq_true rfl) ?_
        refine r_iastN dX5_again_42 rfl (by omega) (Nat.le_of_ble_eq_true rfl) ?_
        refine r_aload_n dX5_again_43 rfl ?_
        refine r_get bX5 3 (by decide) q1526 dX5_again_44 rfl rfl ?_
        refine r_iload_n dX5_again_47 rfl ?_
        refine r_aload_n dX5_again_48 rfl ?_
        refine r_bipush (nI 20) dX5_again_49 (by decide) ?_
        refine r_iload_n dX5_again_51 rfl ?_
        refine r_iadd dX5_again_52 ?_
        rw [nI_add]
        refine r_ialdN dX5_again_53 rfl (by omega) (Nat.le_of_ble_eq_true rfl) ?_
        refine r_iastN dX5_again_54 rfl (by omega) (Nat.le_of_ble_eq_true rfl) ?_
        refine r_aload_n dX5_again_55 rfl ?_
        refine r_get bX5 4 (by decide) q1527 dX5_again_56 rfl rfl ?_
        refine r_iload_n dX5_again_59 rfl ?_
        refine r_aload_n dX5_again_60 rfl ?_
        refine r_bipush (nI 28) dX5_again_61 (by decide) ?_
        refine r_iload_n dX5_again_63 rfl ?_
        refine r_iadd dX5_again_64 ?_
        rw [nI_add]
        refine r_ialdN dX5_again_65 rfl (by omega) (Nat.le_of_ble_eq_true rfl) ?_
        refine r_iastN dX5_again_66 rfl (by omega) (Nat.le_of_ble_eq_true rfl) ?_
        refine r_aload_n dX5_again_67 rfl ?_
        refine r_get bX5 5 (by decide) q1528 dX5_again_68 rfl rfl ?_
        refine r_iload_n dX5_again_71 rfl ?_
        refine r_aload_n dX5_again_72 rfl ?_
        refine r_bipush (nI 36) dX5_again_73 (by decide) ?_
        refine r_iload_n dX5_again_75 rfl ?_
        refine r_iadd dX5_again_76 ?_
        rw [nI_add]
        refine r_ialdN dX5_again_77 rfl (by omega) (Nat.le_of_ble_eq_true rfl) ?_
        refine r_iastN dX5_again_78 rfl (by omega) (Nat.le_of_ble_eq_true rfl) ?_
        refine r_aload_n dX5_again_79 rfl ?_
        refine r_get bX5 6 (by decide) q1529 dX5_again_80 rfl rfl ?_
        refine r_iload_n dX5_again_83 rfl ?_
        refine r_aload_n dX5_again_84 rfl ?_
        refine r_bipush (nI 44) dX5_again_85 (by decide) ?_
        refine r_iload_n dX5_again_87 rfl ?_
        refine r_iadd dX5_again_88 ?_
        rw [nI_add]
        refine r_ialdN dX5_again_89 rfl (by omega) (Nat.le_of_ble_eq_true rfl) ?_
        refine r_iastN dX5_again_90 rfl (by omega) (Nat.le_of_ble_eq_true rfl) ?_
        refine r_aload_n dX5_again_91 rfl ?_
        refine r_get bX5 7 (by decide) q1530 dX5_again_92 rfl rfl ?_
        refine r_iload_n dX5_again_95 rfl ?_
        refine r_aload_n dX5_again_96 rfl ?_
        refine r_bipush (nI 52) dX5_again_97 (by decide) ?_
        refine r_iload_n dX5_again_99 rfl ?_
        refine r_iadd dX5_again_100 ?_
        rw [nI_add]
        refine r_ialdN dX5_again_101 rfl (by omega) (Nat.le_of_ble_eq_true rfl) ?_
        refine r_iastN dX5_again_102 rfl (by omega) (Nat.le_of_ble_eq_true rfl) ?_
        refine r_iincV dX5_again_103 rfl (Nat.le_of_ble_eq_true rfl) (incN _) ?_
        refine r_goto 25 dX5_again_106 (by decide) ?_
        rw [← ov_up0 (fun i => ah (12 + i)) k, ← ov_up0 (fun i => ah (20 + i)) k, ← ov_up0 (fun i => ah (28 + i)) k, ← ov_up0 (fun i => ah (36 + i)) k, ← ov_up0 (fun i => ah (44 + i)) k, ← ov_up0 (fun i => ah (52 + i)) k] at ih
        exact ih
    simp only [ov_0] at e
    exact e
  · intro k hk ih
    refine r_iload_n dX5_again_2 rfl ?_
    refine r_bipush 12 dX5_again_3 (by decide) ?_
    refine r_icmp_ge 23 dX5_again_5 (by decide) (fun c_ => absurd c_ (geF hk (by decide))) (fun _ => ?_)
    refine r_aload_n dX5_again_8 rfl ?_
    refine r_get bX5 0 (by decide) q1523 dX5_again_9 rfl rfl ?_
    refine r_iload_n dX5_again_12 rfl ?_
    refine r_aload_n dX5_again_13 rfl ?_
    refine r_iload_n dX5_again_14 rfl ?_
    refine r_ialdN dX5_again_15 rfl (by omega) (Nat.le_of_ble_eq_true rfl) ?_
    refine r_iastN dX5_again_16 rfl (by omega) (Nat.le_of_ble_eq_true rfl) ?_
    refine r_iincV dX5_again_17 rfl (Nat.le_of_ble_eq_true rfl) (incN _) ?_
    refine r_goto 2 dX5_again_20 (by decide) ?_
    rw [← ov_up0] at ih
    exact ih
theorem pX5_image (hQ : Q (some (.int 1)) ((mC th kd ow ag lk co sh hs tp hd rl ro rf (kpF th kd ow ag lk co sh hs my ev se ol) ah tr od tk fo wi ou ge mo my ev se td fr to tn va (1) lo), r)) : AMet mX5_image 2 0 0 [.ref 0] ((mC th kd ow ag lk co sh hs tp hd rl ro rf ol ah tr od tk fo wi ou ge mo my ev se td fr to tn va im lo), r) Q := by
  refine AMet.ofRch rfl rfl (Nat.le_of_ble_eq_true rfl) ?_
  refine r_aload_n dX5_image_0 rfl ?_
  refine r_iconst 1 dX5_image_1 (by decide) ?_
  refine r_put bX5 21 (by decide) rfl q1544 dX5_image_2 rfl rfl rfl (Nat.le_of_ble_eq_true rfl) ?_
  refine r_aload_n dX5_image_5 rfl ?_
  refine r_aload_n dX5_image_6 rfl ?_
  refine r_get bX5 22 (by decide) q1545 dX5_image_7 rfl rfl ?_
  refine r_callV (as := [_]) okX5_keep bX5 rfl rfl q1764 dX5_image_10 (Nat.le_of_ble_eq_true rfl) rfl (Nat.le_of_ble_eq_true rfl) (Nat.le_of_ble_eq_true rfl) (Nat.le_of_ble_eq_true rfl) (pX5_keepO ?_)
  refine r_iconst 1 dX5_image_13 (by decide) ?_
  exact r_iret dX5_image_14 rfl (Nat.le_of_ble_eq_true rfl) (Nat.le_of_ble_eq_true rfl) (hQ)
theorem pX5_back_no (hi : im = 0) (hQ : Q (some (.int (-5))) ((mC th kd ow ag lk co sh hs tp hd rl ro (upd rf 5 (rf 5 + 1)) ol ah tr od tk fo wi ou ge mo my ev se td fr to tn va im lo), r)) : AMet mX5_back 2 0 0 [.ref 0] ((mC th kd ow ag lk co sh hs tp hd rl ro rf ol ah tr od tk fo wi ou ge mo my ev se td fr to tn va im lo), r) Q := by
  refine AMet.ofRch rfl rfl (Nat.le_of_ble_eq_true rfl) ?_
  refine r_aload_n dX5_back_0 rfl ?_
  refine r_get bX5 21 (by decide) q1544 dX5_back_1 rfl rfl ?_
  refine r_if_ne 14 dX5_back_4 (by decide) (fun c_ => absurd (hi) c_) (fun _ => ?_)
  refine r_aload_n dX5_back_7 rfl ?_
  refine r_bipush (-5) dX5_back_8 (by decide) ?_
  refine r_callV (as := [_]) okX5_no bX5 rfl rfl q1633 dX5_back_10 (Nat.le_of_ble_eq_true rfl) rfl (Nat.le_of_ble_eq_true rfl) (Nat.le_of_ble_eq_true rfl) (Nat.le_of_ble_eq_true rfl) (pX5_no 5 (by decide) (by decide) ?_)
  exact r_iret dX5_back_13 rfl (Nat.le_of_ble_eq_true rfl) (Nat.le_of_ble_eq_true rfl) (hQ)
/-- who is no more is taken off the shelf -/
def offF (hd : Nat → Int32) (m : Int32) (k : Nat) : Nat → Int32 := fun i => if i < k ∧ 10 + m ≤ hd i then -1 else hd i
theorem off_0 (hd : Nat → Int32) (m : Int32) : offF hd m 0 = hd := by
  funext i
  simp [offF]
theorem off_t {hd : Nat → Int32} {m : Int32} {k : Nat} (h : 10 + m ≤ hd k) : upd (offF hd m k) k (-1) = offF hd m (k + 1) := by
  funext i
  by_cases e : i = k
  · subst e
    rw [pk_us]
    simp [offF, h]
  · rw [pk_un e]
    simp only [offF]
    have : (i < k ∧ 10 + m ≤ hd i) ↔ (i < k + 1 ∧ 10 + m ≤ hd i) := by
      constructor
      · intro z
        exact ⟨by omega, z.2⟩
      · intro z
        exact ⟨by omega, z.2⟩
    simp only [this]
theorem off_f {hd : Nat → Int32} {m : Int32} {k : Nat} (h : ¬ 10 + m ≤ hd k) : offF hd m (k + 1) = offF hd m k := by
  funext i
  simp only [offF]
  by_cases e : i = k
  · subst e
    rw [if_neg (fun z => h z.2), if_neg (fun z => h z.2)]
  · have : (i < k ∧ 10 + m ≤ hd i) ↔ (i < k + 1 ∧ 10 + m ≤ hd i) := by
      constructor
      · intro z
        exact ⟨by omega, z.2⟩
      · intro z
        exact ⟨by omega, z.2⟩
    simp only [this]
theorem off_k {hd : Nat → Int32} {m : Int32} {k : Nat} : offF hd m k k = hd k := by simp [offF]
theorem pX5_back (hi : ¬ im = 0) (hQ : Q (some (.int 1)) ((mC (ovF ol 0 12 th) (ovF (fun i => ol (12 + i)) 0 8 kd) (ovF (fun i => ol (20 + i)) 0 8 ow) (ovF (fun i => ol (28 + i)) 0 8 ag) (ovF (fun i => ol (36 + i)) 0 8 lk) (ovF (fun i => ol (44 + i)) 0 8 co) (ovF (fun i => ol (52 + i)) 0 8 sh) (ovF (fun i => ol (60 + i)) 0 64 hs) tp (offF hd (ol 124) 8) rl ro rf ol ah tr od tk fo wi ou ge mo (ol 124) (ol 125) (ol 126) td fr to tn va im lo), r)) : AMet mX5_back 2 0 0 [.ref 0] ((mC th kd ow ag lk co sh hs tp hd rl ro rf ol ah tr od tk fo wi ou ge mo my ev se td fr to tn va im lo), r) Q := by
  refine AMet.ofRch rfl rfl (Nat.le_of_ble_eq_true rfl) ?_
  refine r_aload_n dX5_back_0 rfl ?_
  refine r_get bX5 21 (by decide) q1544 dX5_back_1 rfl rfl ?_
  refine r_if_ne 14 dX5_back_4 (by decide) (fun _ => ?_) (fun c_ => absurd c_ (hi))
  refine r_aload_n dX5_back_14 rfl ?_
  refine r_aload_n dX5_back_15 rfl ?_
  refine r_get bX5 22 (by decide) q1545 dX5_back_16 rfl rfl ?_
  refine r_callV (as := [_]) okX5_again bX5 rfl rfl q1808 dX5_back_19 (Nat.le_of_ble_eq_true rfl) rfl (Nat.le_of_ble_eq_true rfl) (Nat.le_of_ble_eq_true rfl) (Nat.le_of_ble_eq_true rfl) (pX5_againO ?_)
  refine r_iconst 0 dX5_back_22 (by decide) ?_
  refine r_istore_n dX5_back_23 (Nat.le_of_ble_eq_true rfl) ?_
  refine eqP (P := fun z => Rch (mX5_back, 2, 0, 0, oQ Q) 0 0 24 [some (.ref 0), some (.int (nI 0))] [] ((mC (ovF ol 0 12 th) (ovF (fun i => ol (12 + i)) 0 8 kd) (ovF (fun i => ol (20 + i)) 0 8 ow) (ovF (fun i => ol (28 + i)) 0 8 ag) (ovF (fun i => ol (36 + i)) 0 8 lk) (ovF (fun i => ol (44 + i)) 0 8 co) (ovF (fun i => ol (52 + i)) 0 8 sh) (ovF (fun i => ol (60 + i)) 0 64 hs) tp (z) rl ro rf ol ah tr od tk fo wi ou ge mo (ol 124) (ol 125) (ol 126) td fr to tn va im lo), r)) (off_0 hd (ol 124)) ?_
  refine loopUp (N := 8) (P := fun k => Rch (mX5_back, 2, 0, 0, oQ Q) 0 0 24 [some (.ref 0), some (.int (nI k))] [] ((mC (ovF ol 0 12 th) (ovF (fun i => ol (12 + i)) 0 8 kd) (ovF (fun i => ol (20 + i)) 0 8 ow) (ovF (fun i => ol (28 + i)) 0 8 ag) (ovF (fun i => ol (36 + i)) 0 8 lk) (ovF (fun i => ol (44 + i)) 0 8 co) (ovF (fun i => ol (52 + i)) 0 8 sh) (ovF (fun i => ol (60 + i)) 0 64 hs) tp (offF hd (ol 124) k) rl ro rf ol ah tr od tk fo wi ou ge mo (ol 124) (ol 125) (ol 126) td fr to tn va im lo), r)) ?_ ?_
  · refine r_iload_n dX5_back_24 rfl ?_
    refine r_bipush 8 dX5_back_25 (by decide) ?_
    refine r_icmp_ge 59 dX5_back_27 (by decide) (fun _ => ?_) (fun c_ => absurd (geT 8) c_)
    refine r_iconst 1 dX5_back_59 (by decide) ?_
    exact r_iret dX5_back_60 rfl (Nat.le_of_ble_eq_true rfl) (Nat.le_of_ble_eq_true rfl) (hQ)
  · intro k hk ih
    refine r_iload_n dX5_back_24 rfl ?_
    refine r_bipush 8 dX5_back_25 (by decide) ?_
    refine r_icmp_ge 59 dX5_back_27 (by decide) (fun c_ => absurd c_ (geF hk (by decide))) (fun _ => ?_)
    refine r_aload_n dX5_back_30 rfl ?_
    refine r_get bX5 17 (by decide) q1540 dX5_back_31 rfl rfl ?_
    refine r_iload_n dX5_back_34 rfl ?_
    refine r_ialdN dX5_back_35 rfl (by omega) (Nat.le_of_ble_eq_true rfl) ?_
    refine r_bipush 10 dX5_back_36 (by decide) ?_
    refine r_aload_n dX5_back_38 rfl ?_
    refine r_get bX5 1 (by decide) q1524 dX5_back_39 rfl rfl ?_
    refine r_iadd dX5_back_42 ?_
    rw [off_k]
    refine r_icmp_lt 53 dX5_back_43 (by decide) (fun c_43 => ?_) (fun c_43 => ?_)
    · refine r_iincV dX5_back_53 rfl (Nat.le_of_ble_eq_true rfl) (incN _) ?_
      refine r_goto 24 dX5_back_56 (by decide) ?_
      first | (rw [off_f (Int32.not_le.mpr c_43)] at ih; exact ih) | (rw [← off_t (Int32.not_lt.mp c_43)] at ih; exact ih)
    · refine r_aload_n dX5_back_46 rfl ?_
      refine r_get bX5 17 (by decide) q1540 dX5_back_47 rfl rfl ?_
      refine r_iload_n dX5_back_50 rfl ?_
      refine r_iconst (-1) dX5_back_51 (by decide) ?_
      refine r_iastN dX5_back_52 rfl (by omega) (Nat.le_of_ble_eq_true rfl) ?_
      refine r_iincV dX5_back_53 rfl (Nat.le_of_ble_eq_true rfl) (incN _) ?_
      refine r_goto 24 dX5_back_56 (by decide) ?_
      first | (rw [off_f (Int32.not_le.mpr c_43)] at ih; exact ih) | (rw [← off_t (Int32.not_lt.mp c_43)] at ih; exact ih)
end MM
