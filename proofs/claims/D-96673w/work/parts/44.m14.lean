set_option maxRecDepth 100000
/-! the reference: chance, status, the judge -/
def drN (se : Int32) : Int32 := se * 1103515245 + 12345
def drU (s : Int32) : Int32 := (s.toUInt32 >>> ((16 : Int32).toUInt32 &&& Int32.toUInt32 31)).toInt32
def drV (s m : Int32) : Int32 := drU s - drU s / m * m
def sumI (f : Nat → Int32) : Nat → Int32
  | 0 => 0
  | k + 1 => sumI f k + f k
theorem lgcE {v w : Int64} : lg_cmp v w = 0 ↔ v = w := by
  unfold lg_cmp
  constructor
  · intro h
    split at h
    · exact absurd h (by decide)
    · split at h
      · assumption
      · exact absurd h (by decide)
  · intro h
    subst h
    rw [if_neg Int64.lt_irrefl, if_pos rfl]
/-- who is told to have looked: a set -/
def tsF (ro : Nat → Int64) (b : Nat) (m : Int32) : Nat → Int32
  | 0 => 0
  | k + 1 => if ¬ lg_cmp (ro (b + 2 * k)) 0 < 0 ∧ lg_cmp (ro (b + 2 * k)) m.toInt64 < 0 then tsF ro b m k ||| ((1 : Int32) <<< ((ro (b + 2 * k)).toInt32 &&& 31)) else tsF ro b m k
/-- the first thing told that is not so -/
def wrG (ro : Nat → Int64) (b : Nat) (L : List Nat) (fS : Nat → Nat → Int32) : Nat → Nat → Int32
  | 0, _ => -1
  | q + 1, i => if i < L.length ∧ ro (b + 2 * i) = (nI (L.getD i 0)).toInt64 ∧ ro (b + (2 * i + 1)) = (fS (i + 1) (L.getD i 0)).toInt64 then wrG ro b L fS q (i + 1) else nI i
def wrF (kN : Nat → Nat) (ow lk ag : Nat → Int32) (n : Nat) (th : Nat → Int32) (ro : Nat → Int64) (b m : Nat) : Int32 :=
  wrG ro b (ordL ag (tsF ro b (nI n) m) n) (fun i => (runS kN ow lk ((ordL ag (tsF ro b (nI n) m) n).take i) (th, fun _ => 0, fun _ => -1)).2.2) m 0
section MM
variable {th kd ow ag lk co sh hs tp hd rl : Nat → Int32} {ro : Nat → Int64} {rf ol ah tr od tk fo wi ou ge mo : Nat → Int32} {my ev se td fr to tn va im lo : Int32} {r : List AC × List AC × List AC} {Q : Option Value → AHp → Prop}
variable {n : Nat} {kN : Nat → Nat}
theorem pX5_draw {m : Int32} (hm : ¬ m = 0) (hQ : Q (some (.int (drV (drN se) m))) ((mC th kd ow ag lk co sh hs tp hd rl ro rf ol ah tr od tk fo wi ou ge mo my ev (drN se) td fr to tn va im lo), r)) : AMet mX5_draw 1 0 0 [.ref 0, .int m] ((mC th kd ow ag lk co sh hs tp hd rl ro rf ol ah tr od tk fo wi ou ge mo my ev se td fr to tn va im lo), r) Q := by
  refine AMet.ofRch rfl rfl (Nat.le_of_ble_eq_true rfl) ?_
  refine r_aload_n dX5_draw_0 rfl ?_
  refine r_aload_n dX5_draw_1 rfl ?_
  refine r_get bX5 10 (by decide) q1533 dX5_draw_2 rfl rfl ?_
  refine r_ldcw q2029 dX5_draw_5 ?_
  refine r_imul dX5_draw_8 ?_
  refine r_sipush 12345 dX5_draw_9 (by decide) ?_
  refine r_iadd dX5_draw_12 ?_
  refine r_put bX5 10 (by decide) rfl q1533 dX5_draw_13 rfl rfl rfl (Nat.le_of_ble_eq_true rfl) ?_
  refine r_aload_n dX5_draw_16 rfl ?_
  refine r_get bX5 10 (by decide) q1533 dX5_draw_17 rfl rfl ?_
  refine r_bipush 16 dX5_draw_20 (by decide) ?_
  refine r_iushr dX5_draw_22 ?_
  refine r_iload_n dX5_draw_23 rfl ?_
  refine r_irem dX5_draw_24 (hm) ?_
  exact r_iret dX5_draw_25 rfl (Nat.le_of_ble_eq_true rfl) (Nat.le_of_ble_eq_true rfl) (hQ)
theorem pX5_status_0 (hQ : Q (some (.int my)) ((mC th kd ow ag lk co sh hs tp hd rl ro rf ol ah tr od tk fo wi ou ge mo my ev se td fr to tn va im lo), r)) : AMet mX5_status 2 0 0 [.ref 0, .int 0] ((mC th kd ow ag lk co sh hs tp hd rl ro rf ol ah tr od tk fo wi ou ge mo my ev se td fr to tn va im lo), r) Q := by
  refine AMet.ofRch rfl rfl (Nat.le_of_ble_eq_true rfl) ?_
  refine r_iconst 0 dX5_status_0 (by decide) ?_
  refine r_istore_n dX5_status_1 (Nat.le_of_ble_eq_true rfl) ?_
  refine r_iload_n dX5_status_2 rfl ?_
  refine r_tableIn 48 dX5_status_3 (by decide) (by decide) rfl (by decide) ?_
  refine r_aload_n dX5_status_48 rfl ?_
  refine r_get bX5 1 (by decide) q1524 dX5_status_49 rfl rfl ?_
  exact r_iret dX5_status_52 rfl (Nat.le_of_ble_eq_true rfl) (Nat.le_of_ble_eq_true rfl) (hQ)
theorem pX5_status_1 (hQ : Q (some (.int (nI (cntI (fun p => th p != -1) 12)))) ((mC th kd ow ag lk co sh hs tp hd rl ro rf ol ah tr od tk fo wi ou ge mo my ev se td fr to tn va im lo), r)) : AMet mX5_status 2 0 0 [.ref 0, .int 1] ((mC th kd ow ag lk co sh hs tp hd rl ro rf ol ah tr od tk fo wi ou ge mo my ev se td fr to tn va im lo), r) Q := by
  refine AMet.ofRch rfl rfl (Nat.le_of_ble_eq_true rfl) ?_
  refine r_iconst 0 dX5_status_0 (by decide) ?_
  refine r_istore_n dX5_status_1 (Nat.le_of_ble_eq_true rfl) ?_
  refine r_iload_n dX5_status_2 rfl ?_
  refine r_tableIn 53 dX5_status_3 (by decide) (by decide) rfl (by decide) ?_
  refine r_iconst 0 dX5_status_53 (by decide) ?_
  refine r_istore_n dX5_status_54 (Nat.le_of_ble_eq_true rfl) ?_
  refine loopUp (N := 12) (P := fun k => Rch (mX5_status, 2, 0, 0, oQ Q) 0 0 55 [some (.ref 0), some (.int 1), some (.int (nI (cntI (fun p => th p != -1) k))), some (.int (nI k))] [] ((mC th kd ow ag lk co sh hs tp hd rl ro rf ol ah tr od tk fo wi ou ge mo my ev se td fr to tn va im lo), r)) ?_ ?_
  · refine r_iload_n dX5_status_55 rfl ?_
    refine r_bipush 12 dX5_status_56 (by decide) ?_
    refine r_icmp_ge 80 dX5_status_58 (by decide) (fun _ => ?_) (fun c_ => absurd (geT 12) c_)
    refine r_iload_n dX5_status_80 rfl ?_
    exact r_iret dX5_status_81 rfl (Nat.le_of_ble_eq_true rfl) (Nat.le_of_ble_eq_true rfl) (hQ)
  · intro k hk ih
    refine r_iload_n dX5_status_55 rfl ?_
    refine r_bipush 12 dX5_status_56 (by decide) ?_
    refine r_icmp_ge 80 dX5_status_58 (by decide) (fun c_ => absurd c_ (geF hk (by decide))) (fun _ => ?_)
    refine r_aload_n dX5_status_61 rfl ?_
    refine r_get bX5 0 (by decide) q1523 dX5_status_62 rfl rfl ?_
    refine r_iload_n dX5_status_65 rfl ?_
    refine r_ialdN dX5_status_66 rfl (by omega) (Nat.le_of_ble_eq_true rfl) ?_
    refine r_iconst (-1) dX5_status_67 (by decide) ?_
    refine r_icmp_eq 74 dX5_status_68 (by decide) (fun c_68 => ?_) (fun c_68 => ?_)
    · refine r_iincV dX5_status_74 rfl (Nat.le_of_ble_eq_true rfl) (incN _) ?_
      refine r_goto 55 dX5_status_77 (by decide) ?_
      first | (have q1 : (th k != -1) = true := (by simpa using c_68); simp only [cntI, q1, if_true] at ih; exact ih) | (have q1 : (th k != -1) = false := (by simpa using c_68); simp only [cntI, q1, Bool.false_eq_true, if_false, Nat.add_zero] at ih; exact ih)
    · refine r_iincV dX5_status_71 rfl (Nat.le_of_ble_eq_true rfl) (incN _) ?_
      refine r_iincV dX5_status_74 rfl (Nat.le_of_ble_eq_true rfl) (incN _) ?_
      refine r_goto 55 dX5_status_77 (by decide) ?_
      first | (have q1 : (th k != -1) = true := (by simpa using c_68); simp only [cntI, q1, if_true] at ih; exact ih) | (have q1 : (th k != -1) = false := (by simpa using c_68); simp only [cntI, q1, Bool.false_eq_true, if_false, Nat.add_zero] at ih; exact ih)
theorem pX5_status_2 (hn : n ≤ 8) (hQ : Q (some (.int (sumI hs (8 * n)))) ((mC th kd ow ag lk co sh hs tp hd rl ro rf ol ah tr od tk fo wi ou ge mo (nI n) ev se td fr to tn va im lo), r)) : AMet mX5_status 2 0 0 [.ref 0, .int 2] ((mC th kd ow ag lk co sh hs tp hd rl ro rf ol ah tr od tk fo wi ou ge mo (nI n) ev se td fr to tn va im lo), r) Q := by
  refine AMet.ofRch rfl rfl (Nat.le_of_ble_eq_true rfl) ?_
  refine r_iconst 0 dX5_status_0 (by decide) ?_
  refine r_istore_n dX5_status_1 (Nat.le_of_ble_eq_true rfl) ?_
  refine r_iload_n dX5_status_2 rfl ?_
  refine r_tableIn 82 dX5_status_3 (by decide) (by decide) rfl (by decide) ?_
  refine r_iconst 0 dX5_status_82 (by decide) ?_
  refine r_istore_n dX5_status_83 (Nat.le_of_ble_eq_true rfl) ?_
  refine loopUp (N := 8 * n) (P := fun k => Rch (mX5_status, 2, 0, 0, oQ Q) 0 0 84 [some (.ref 0), some (.int 2), some (.int (sumI hs k)), some (.int (nI k))] [] ((mC th kd ow ag lk co sh hs tp hd rl ro rf ol ah tr od tk fo wi ou ge mo (nI n) ev se td fr to tn va im lo), r)) ?_ ?_
  · refine r_iload_n dX5_status_84 rfl ?_
    refine r_bipush 8 dX5_status_85 (by decide) ?_
    refine r_aload_n dX5_status_87 rfl ?_
    refine r_get bX5 1 (by decide) q1524 dX5_status_88 rfl rfl ?_
    refine r_imul dX5_status_91 ?_
    rw [show (8 : Int32) * nI n = nI (8 * n) from pk_mul 8 n]
    refine r_icmp_ge 110 dX5_status_92 (by decide) (fun _ => ?_) (fun c_ => absurd (Int32.le_refl _) c_)
    refine r_iload_n dX5_status_110 rfl ?_
    exact r_iret dX5_status_111 rfl (Nat.le_of_ble_eq_true rfl) (Nat.le_of_ble_eq_true rfl) (hQ)
  · intro k hk ih
    refine r_iload_n dX5_status_84 rfl ?_
    refine r_bipush 8 dX5_status_85 (by decide) ?_
    refine r_aload_n dX5_status_87 rfl ?_
    refine r_get bX5 1 (by decide) q1524 dX5_status_88 rfl rfl ?_
    refine r_imul dX5_status_91 ?_
    rw [show (8 : Int32) * nI n = nI (8 * n) from pk_mul 8 n]
    refine r_icmp_ge 110 dX5_status_92 (by decide) (fun c_ => absurd c_ (geF hk (by omega))) (fun _ => ?_)
    refine r_iload_n dX5_status_95 rfl ?_
    refine r_aload_n dX5_status_96 rfl ?_
    refine r_get bX5 8 (by decide) q1531 dX5_status_97 rfl rfl ?_
    refine r_iload_n dX5_status_100 rfl ?_
    refine r_ialdN dX5_status_101 rfl (by omega) (Nat.le_of_ble_eq_true rfl) ?_
    refine r_iadd dX5_status_102 ?_
    refine r_istore_n dX5_status_103 (Nat.le_of_ble_eq_true rfl) ?_
    refine r_iincV dX5_status_104 rfl (Nat.le_of_ble_eq_true rfl) (incN _) ?_
    refine r_goto 84 dX5_status_107 (by decide) ?_
    exact ih
theorem pX5_status_3 (hQ : Q (some (.int ev)) ((mC th kd ow ag lk co sh hs tp hd rl ro rf ol ah tr od tk fo wi ou ge mo my ev se td fr to tn va im lo), r)) : AMet mX5_status 2 0 0 [.ref 0, .int 3] ((mC th kd ow ag lk co sh hs tp hd rl ro rf ol ah tr od tk fo wi ou ge mo my ev se td fr to tn va im lo), r) Q := by
  refine AMet.ofRch rfl rfl (Nat.le_of_ble_eq_true rfl) ?_
  refine r_iconst 0 dX5_status_0 (by decide) ?_
  refine r_istore_n dX5_status_1 (Nat.le_of_ble_eq_true rfl) ?_
  refine r_iload_n dX5_status_2 rfl ?_
  refine r_tableIn 112 dX5_status_3 (by decide) (by decide) rfl (by decide) ?_
  refine r_aload_n dX5_status_112 rfl ?_
  refine r_get bX5 9 (by decide) q1532 dX5_status_113 rfl rfl ?_
  exact r_iret dX5_status_116 rfl (Nat.le_of_ble_eq_true rfl) (Nat.le_of_ble_eq_true rfl) (hQ)
theorem pX5_status_4 (hn : n ≤ 8) (hQ : Q (some (.int (nI (cntI (fun p => sh p != -1) n)))) ((mC th kd ow ag lk co sh hs tp hd rl ro rf ol ah tr od tk fo wi ou ge mo (nI n) ev se td fr to tn va im lo), r)) : AMet mX5_status 2 0 0 [.ref 0, .int 4] ((mC th kd ow ag lk co sh hs tp hd rl ro rf ol ah tr od tk fo wi ou ge mo (nI n) ev se td fr to tn va im lo), r) Q := by
  refine AMet.ofRch rfl rfl (Nat.le_of_ble_eq_true rfl) ?_
  refine r_iconst 0 dX5_status_0 (by decide) ?_
  refine r_istore_n dX5_status_1 (Nat.le_of_ble_eq_true rfl) ?_
  refine r_iload_n dX5_status_2 rfl ?_
  refine r_tableIn 117 dX5_status_3 (by decide) (by decide) rfl (by decide) ?_
  refine r_iconst 0 dX5_status_117 (by decide) ?_
  refine r_istore_n dX5_status_118 (Nat.le_of_ble_eq_true rfl) ?_
  refine loopUp (N := n) (P := fun k => Rch (mX5_status, 2, 0, 0, oQ Q) 0 0 119 [some (.ref 0), some (.int 4), some (.int (nI (cntI (fun p => sh p != -1) k))), some (.int (nI k))] [] ((mC th kd ow ag lk co sh hs tp hd rl ro rf ol ah tr od tk fo wi ou ge mo (nI n) ev se td fr to tn va im lo), r)) ?_ ?_
  · refine r_iload_n dX5_status_119 rfl ?_
    refine r_aload_n dX5_status_120 rfl ?_
    refine r_get bX5 1 (by decide) q1524 dX5_status_121 rfl rfl ?_
    refine r_icmp_ge 146 dX5_status_124 (by decide) (fun _ => ?_) (fun c_ => absurd (Int32.le_refl _) c_)
    refine r_iload_n dX5_status_146 rfl ?_
    exact r_iret dX5_status_147 rfl (Nat.le_of_ble_eq_true rfl) (Nat.le_of_ble_eq_true rfl) (hQ)
  · intro k hk ih
    refine r_iload_n dX5_status_119 rfl ?_
    refine r_aload_n dX5_status_120 rfl ?_
    refine r_get bX5 1 (by decide) q1524 dX5_status_121 rfl rfl ?_
    refine r_icmp_ge 146 dX5_status_124 (by decide) (fun c_ => absurd c_ (geF hk (by omega))) (fun _ => ?_)
    refine r_aload_n dX5_status_127 rfl ?_
    refine r_get bX5 7 (by decide) q1530 dX5_status_128 rfl rfl ?_
    refine r_iload_n dX5_status_131 rfl ?_
    refine r_ialdN dX5_status_132 rfl (by omega) (Nat.le_of_ble_eq_true rfl) ?_
    refine r_iconst (-1) dX5_status_133 (by decide) ?_
    refine r_icmp_eq 140 dX5_status_134 (by decide) (fun c_134 => ?_) (fun c_134 => ?_)
    · refine r_iincV dX5_status_140 rfl (Nat.le_of_ble_eq_true rfl) (incN _) ?_
      refine r_goto 119 dX5_status_143 (by decide) ?_
      first | (have q1 : (sh k != -1) = true := (by simpa using c_134); simp only [cntI, q1, if_true] at ih; exact ih) | (have q1 : (sh k != -1) = false := (by simpa using c_134); simp only [cntI, q1, Bool.false_eq_true, if_false, Nat.add_zero] at ih; exact ih)
    · refine r_iincV dX5_status_137 rfl (Nat.le_of_ble_eq_true rfl) (incN _) ?_
      refine r_iincV dX5_status_140 rfl (Nat.le_of_ble_eq_true rfl) (incN _) ?_
      refine r_goto 119 dX5_status_143 (by decide) ?_
      first | (have q1 : (sh k != -1) = true := (by simpa using c_134); simp only [cntI, q1, if_true] at ih; exact ih) | (have q1 : (sh k != -1) = false := (by simpa using c_134); simp only [cntI, q1, Bool.false_eq_true, if_false, Nat.add_zero] at ih; exact ih)
theorem pX5_status_5 (hQ : Q (some (.int td)) ((mC th kd ow ag lk co sh hs tp hd rl ro rf ol ah tr od tk fo wi ou ge mo my ev se td fr to tn va im lo), r)) : AMet mX5_status 2 0 0 [.ref 0, .int 5] ((mC th kd ow ag lk co sh hs tp hd rl ro rf ol ah tr od tk fo wi ou ge mo my ev se td fr to tn va im lo), r) Q := by
  refine AMet.ofRch rfl rfl (Nat.le_of_ble_eq_true rfl) ?_
  refine r_iconst 0 dX5_status_0 (by decide) ?_
  refine r_istore_n dX5_status_1 (Nat.le_of_ble_eq_true rfl) ?_
  refine r_iload_n dX5_status_2 rfl ?_
  refine r_tableIn 148 dX5_status_3 (by decide) (by decide) rfl (by decide) ?_
  refine r_aload_n dX5_status_148 rfl ?_
  refine r_get bX5 11 (by decide) q1534 dX5_status_149 rfl rfl ?_
  exact r_iret dX5_status_152 rfl (Nat.le_of_ble_eq_true rfl) (Nat.le_of_ble_eq_true rfl) (hQ)
theorem pX5_status_6 (hQ : Q (some (.int se)) ((mC th kd ow ag lk co sh hs tp hd rl ro rf ol ah tr od tk fo wi ou ge mo my ev se td fr to tn va im lo), r)) : AMet mX5_status 2 0 0 [.ref 0, .int 6] ((mC th kd ow ag lk co sh hs tp hd rl ro rf ol ah tr od tk fo wi ou ge mo my ev se td fr to tn va im lo), r) Q := by
  refine AMet.ofRch rfl rfl (Nat.le_of_ble_eq_true rfl) ?_
  refine r_iconst 0 dX5_status_0 (by decide) ?_
  refine r_istore_n dX5_status_1 (Nat.le_of_ble_eq_true rfl) ?_
  refine r_iload_n dX5_status_2 rfl ?_
  refine r_tableIn 153 dX5_status_3 (by decide) (by decide) rfl (by decide) ?_
  refine r_aload_n dX5_status_153 rfl ?_
  refine r_get bX5 10 (by decide) q1533 dX5_status_154 rfl rfl ?_
  exact r_iret dX5_status_157 rfl (Nat.le_of_ble_eq_true rfl) (Nat.le_of_ble_eq_true rfl) (hQ)
theorem pX5_status_7 (hQ : Q (some (.int (nI (cntI (fun p => hd p != -1) 8)))) ((mC th kd ow ag lk co sh hs tp hd rl ro rf ol ah tr od tk fo wi ou ge mo my ev se td fr to tn va im lo), r)) : AMet mX5_status 2 0 0 [.ref 0, .int 7] ((mC th kd ow ag lk co sh hs tp hd rl ro rf ol ah tr od tk fo wi ou ge mo my ev se td fr to tn va im lo), r) Q := by
  refine AMet.ofRch rfl rfl (Nat.le_of_ble_eq_true rfl) ?_
  refine r_iconst 0 dX5_status_0 (by decide) ?_
  refine r_istore_n dX5_status_1 (Nat.le_of_ble_eq_true rfl) ?_
  refine r_iload_n dX5_status_2 rfl ?_
  refine r_tableIn 158 dX5_status_3 (by decide) (by decide) rfl (by decide) ?_
  refine r_iconst 0 dX5_status_158 (by decide) ?_
  refine r_istore_n dX5_status_159 (Nat.le_of_ble_eq_true rfl) ?_
  refine loopUp (N := 8) (P := fun k => Rch (mX5_status, 2, 0, 0, oQ Q) 0 0 160 [some (.ref 0), some (.int 7), some (.int (nI (cntI (fun p => hd p != -1) k))), some (.int (nI k))] [] ((mC th kd ow ag lk co sh hs tp hd rl ro rf ol ah tr od tk fo wi ou ge mo my ev se td fr to tn va im lo), r)) ?_ ?_
  · refine r_iload_n dX5_status_160 rfl ?_
    refine r_bipush 8 dX5_status_161 (by decide) ?_
    refine r_icmp_ge 185 dX5_status_163 (by decide) (fun _ => ?_) (fun c_ => absurd (geT 8) c_)
    refine r_iload_n dX5_status_185 rfl ?_
    exact r_iret dX5_status_186 rfl (Nat.le_of_ble_eq_true rfl) (Nat.le_of_ble_eq_true rfl) (hQ)
  · intro k hk ih
    refine r_iload_n dX5_status_160 rfl ?_
    refine r_bipush 8 dX5_status_161 (by decide) ?_
    refine r_icmp_ge 185 dX5_status_163 (by decide) (fun c_ => absurd c_ (geF hk (by decide))) (fun _ => ?_)
    refine r_aload_n dX5_status_166 rfl ?_
    refine r_get bX5 17 (by decide) q1540 dX5_status_167 rfl rfl ?_
    refine r_iload_n dX5_status_170 rfl ?_
    refine r_ialdN dX5_status_171 rfl (by omega) (Nat.le_of_ble_eq_true rfl) ?_
    refine r_iconst (-1) dX5_status_172 (by decide) ?_
    refine r_icmp_eq 179 dX5_status_173 (by decide) (fun c_173 => ?_) (fun c_173 => ?_)
    · refine r_iincV dX5_status_179 rfl (Nat.le_of_ble_eq_true rfl) (incN _) ?_
      refine r_goto 160 dX5_status_182 (by decide) ?_
      first | (have q1 : (hd k != -1) = true := (by simpa using c_173); simp only [cntI, q1, if_true] at ih; exact ih) | (have q1 : (hd k != -1) = false := (by simpa using c_173); simp only [cntI, q1, Bool.false_eq_true, if_false, Nat.add_zero] at ih; exact ih)
    · refine r_iincV dX5_status_176 rfl (Nat.le_of_ble_eq_true rfl) (incN _) ?_
      refine r_iincV dX5_status_179 rfl (Nat.le_of_ble_eq_true rfl) (incN _) ?_
      refine r_goto 160 dX5_status_182 (by decide) ?_
      first | (have q1 : (hd k != -1) = true := (by simpa using c_173); simp only [cntI, q1, if_true] at ih; exact ih) | (have q1 : (hd k != -1) = false := (by simpa using c_173); simp only [cntI, q1, Bool.false_eq_true, if_false, Nat.add_zero] at ih; exact ih)
theorem inB_ex2 {p : Int32} {a b : Nat} (ha : a < 2 ^ 31) (hb : b < 2 ^ 31) (h : inB p (nI a) (nI b) = true) : ∃ j, a ≤ j ∧ j ≤ b ∧ p = nI j := by
  simp only [inB, Bool.and_eq_true, decide_eq_true_eq] at h
  have h0 : (0 : Int32) ≤ p := Int32.le_trans (nI_pos' ha) h.1
  obtain ⟨j, h1, h2⟩ := nI_of2 (n := b) (nI_toInt hb) (Int32.not_lt.mpr h0) h.2
  subst h2
  refine ⟨j, ?_, h1, rfl⟩
  by_cases g : a ≤ j
  · exact g
  · exact absurd h.1 (nI_ge (by omega) ha)
theorem pX5_status_8 {i : Int32} (h8 : ∀ j, j < 8 → i ≠ nI j) (hno : inB i 12 16 = false → Q (some (.int (-1))) ((mC th kd ow ag lk co sh hs tp hd rl ro rf ol ah tr od tk fo wi ou ge mo my ev se td fr to tn va im lo), r)) (hok : ∀ j, 2 ≤ j → j ≤ 6 → i = nI (10 + j) → Q (some (.int (rf j))) ((mC th kd ow ag lk co sh hs tp hd rl ro rf ol ah tr od tk fo wi ou ge mo my ev se td fr to tn va im lo), r)) : AMet mX5_status 2 0 0 [.ref 0, .int i] ((mC th kd ow ag lk co sh hs tp hd rl ro rf ol ah tr od tk fo wi ou ge mo my ev se td fr to tn va im lo), r) Q := by
  refine AMet.ofRch rfl rfl (Nat.le_of_ble_eq_true rfl) ?_
  have hx : i.toInt < 0 ∨ 7 < i.toInt := by
    by_cases g : i.toInt < 0
    · exact Or.inl g
    · by_cases g2 : 7 < i.toInt
      · exact Or.inr g2
      · refine absurd ?_ (h8 i.toInt.toNat (by omega))
        refine Int32.toInt_inj.mp ?_
        rw [nI_toInt (by omega)]
        omega
  have hgo : inB i 12 16 = true → Rch (mX5_status, 2, 0, 0, oQ Q) 0 0 198 [some (.ref 0), some (.int i), some (.int 0), none] [] ((mC th kd ow ag lk co sh hs tp hd rl ro rf ol ah tr od tk fo wi ou ge mo my ev se td fr to tn va im lo), r) := by
    intro g
    obtain ⟨j, g1, g2, rfl⟩ := inB_ex2 (a := 12) (b := 16) (by decide) (by decide) g
    obtain ⟨q, rfl⟩ : ∃ q, j = 10 + q := ⟨j - 10, by omega⟩
    refine r_aload_n dX5_status_198 rfl ?_
    refine r_get bX5 20 (by decide) q1543 dX5_status_199 rfl rfl ?_
    refine r_iload_n dX5_status_202 rfl ?_
    refine r_bipush 10 dX5_status_203 (by decide) ?_
    refine r_isub dX5_status_205 ?_
    rw [show nI (10 + q) - 10 = nI q by rw [← nI_add]; show (10 : Int32) + nI q - 10 = nI q; rw [Int32.add_comm, Int32.add_sub_cancel]]
    refine r_ialdN dX5_status_206 rfl (by omega) (Nat.le_of_ble_eq_true rfl) ?_
    refine r_goto 211 dX5_status_207 (by decide) ?_
    exact r_iret dX5_status_211 rfl (Nat.le_of_ble_eq_true rfl) (Nat.le_of_ble_eq_true rfl) (hok q (by omega) (by omega) rfl)
  refine r_iconst 0 dX5_status_0 (by decide) ?_
  refine r_istore_n dX5_status_1 (Nat.le_of_ble_eq_true rfl) ?_
  refine r_iload_n dX5_status_2 rfl ?_
  refine r_tableOut 187 dX5_status_3 hx (by decide) ?_
  refine r_iload_n dX5_status_187 rfl ?_
  refine r_bipush 12 dX5_status_188 (by decide) ?_
  refine r_bipush 16 dX5_status_190 (by decide) ?_
  refine r_callS (as := [_, _, _]) okX5_within q1630 dX5_status_192 (Nat.le_of_ble_eq_true rfl) rfl (Nat.le_of_ble_eq_true rfl) (Nat.le_of_ble_eq_true rfl) (Nat.le_of_ble_eq_true rfl) (pX5_within ?_)
  refine r_if_eq 210 dX5_status_195 (by decide) (fun c_195 => ?_) (fun c_195 => ?_)
  · refine r_iconst (-1) dX5_status_210 (by decide) ?_
    exact r_iret dX5_status_211 rfl (Nat.le_of_ble_eq_true rfl) (Nat.le_of_ble_eq_true rfl) (hno (b2i_0.mp c_195))
  · exact hgo (b2i_n.mp c_195)
theorem pX5_wrong {j m : Nat} (hn : n ≤ 8) (hk : ∀ j, j < n → kd j = nI (kN j) ∧ kN j < 6) (ho : ∀ j, j < n → ow j ≠ -1) (hj : j < 8) (hm : m ≤ 20) (hQ : ∀ (tr tk fo od : Nat → Int32) (lo : Int32), Q (some (.int (wrF kN ow lk ag n th ro (40 * j) m))) ((mC th kd ow ag lk co sh hs tp hd rl ro rf ol ah tr od tk fo wi ou ge mo (nI n) ev se td fr to tn va im lo), r)) : AMet mX5_wrong 5 0 0 [.ref 0, .int (nI j), .int (nI m)] ((mC th kd ow ag lk co sh hs tp hd rl ro rf ol ah tr od tk fo wi ou ge mo (nI n) ev se td fr to tn va im lo), r) Q := by
  refine AMet.ofRch rfl rfl (Nat.le_of_ble_eq_true rfl) ?_
  refine r_iconst 0 dX5_wrong_0 (by decide) ?_
  refine r_istore_n dX5_wrong_1 (Nat.le_of_ble_eq_true rfl) ?_
  refine r_iconst 0 dX5_wrong_2 (by decide) ?_
  refine r_istore dX5_wrong_3 (Nat.le_of_ble_eq_true rfl) ?_
  refine loopUp (N := m) (P := fun k => Rch (mX5_wrong, 5, 0, 0, oQ Q) 0 0 5 [some (.ref 0), some (.int (nI j)), some (.int (nI m)), some (.int (tsF ro (40 * j) (nI n) k)), some (.int (nI k))] [] ((mC th kd ow ag lk co sh hs tp hd rl ro rf ol ah tr od tk fo wi ou ge mo (nI n) ev se td fr to tn va im lo), r)) ?_ ?_
  · refine r_iload dX5_wrong_5 rfl ?_
    refine r_iload_n dX5_wrong_7 rfl ?_
    refine r_icmp_ge 64 dX5_wrong_8 (by decide) (fun _ => ?_) (fun c_ => absurd (Int32.le_refl _) c_)
    refine r_aload_n dX5_wrong_64 rfl ?_
    refine r_iload_n dX5_wrong_65 rfl ?_
    refine r_callV (as := [_]) okX5_begins bX5 rfl rfl q1683 dX5_wrong_66 (Nat.le_of_ble_eq_true rfl) rfl (Nat.le_of_ble_eq_true rfl) (Nat.le_of_ble_eq_true rfl) (Nat.le_of_ble_eq_true rfl) (pX5_begins hn (fun od2 hod => ?_))
    refine r_iconst 0 dX5_wrong_69 (by decide) ?_
    refine r_istore dX5_wrong_70 (Nat.le_of_ble_eq_true rfl) ?_
    have hlen := ordL_len ag (tsF ro (40 * j) (nI n) m) n
    refine loopUp (N := m) (P := fun k => wrF kN ow lk ag n th ro (40 * j) m = wrG ro (40 * j) (ordL ag (tsF ro (40 * j) (nI n) m) n) (fun i => (runS kN ow lk ((ordL ag (tsF ro (40 * j) (nI n) m) n).take i) (th, fun _ => 0, fun _ => -1)).2.2) (m - k) k → Rch (mX5_wrong, 5, 0, 0, oQ Q) 0 0 72 [some (.ref 0), some (.int (nI j)), some (.int (nI m)), some (.int (tsF ro (40 * j) (nI n) m)), some (.int (nI k))] [] ((mC th kd ow ag lk co sh hs tp hd rl ro rf ol ah ((runS kN ow lk ((ordL ag (tsF ro (40 * j) (nI n) m) n).take k) (th, fun _ => 0, fun _ => -1)).1) (od2) ((runS kN ow lk ((ordL ag (tsF ro (40 * j) (nI n) m) n).take k) (th, fun _ => 0, fun _ => -1)).2.1) ((runS kN ow lk ((ordL ag (tsF ro (40 * j) (nI n) m) n).take k) (th, fun _ => 0, fun _ => -1)).2.2) wi ou ge mo (nI n) ev se td fr to tn va im (nI (ordL ag (tsF ro (40 * j) (nI n) m) n).length)), r)) ?_ ?_ rfl
    · intro e
      rw [Nat.sub_self] at e
      have e2 : wrF kN ow lk ag n th ro (40 * j) m = -1 := e
      refine r_iload dX5_wrong_72 rfl ?_
      refine r_iload_n dX5_wrong_74 rfl ?_
      refine r_icmp_ge 159 dX5_wrong_75 (by decide) (fun _ => ?_) (fun c_ => absurd (Int32.le_refl _) c_)
      refine r_iconst (-1) dX5_wrong_159 (by decide) ?_
      exact r_iret dX5_wrong_160 rfl (Nat.le_of_ble_eq_true rfl) (Nat.le_of_ble_eq_true rfl) (qi e2.symm (hQ _ _ _ _ _))
    · intro k hk2 ih e
      rw [show m - k = (m - (k + 1)) + 1 by omega] at e
      by_cases hL : k < (ordL ag (tsF ro (40 * j) (nI n) m) n).length
      · have e0 := hod k hL
        have e1 : (ordL ag (tsF ro (40 * j) (nI n) m) n).getD k 0 < n := ordL_lt ag _ n _ (getD_mem hL)
        rw [runS_succ _ _ _ hL] at ih
        refine r_iload dX5_wrong_72 rfl ?_
        refine r_iload_n dX5_wrong_74 rfl ?_
        refine r_icmp_ge 159 dX5_wrong_75 (by decide) (fun c_ => absurd c_ (geF hk2 (by omega))) (fun _ => ?_)
        refine r_iload dX5_wrong_78 rfl ?_
        refine r_aload_n dX5_wrong_80 rfl ?_
        refine r_get bX5 25 (by decide) q1548 dX5_wrong_81 rfl rfl ?_
        refine r_icmp_ge 108 dX5_wrong_84 (by decide) (fun c_ => absurd c_ (geF hL (by omega))) (fun _ => ?_)
        refine r_aload_n dX5_wrong_87 rfl ?_
        refine r_iload_n dX5_wrong_88 rfl ?_
        refine r_iconst 2 dX5_wrong_89 (by decide) ?_
        refine r_iload dX5_wrong_90 rfl ?_
        refine r_imul dX5_wrong_92 ?_
        rw [show (2 : Int32) * nI k = nI (2 * k) from pk_mul 2 k]
        refine r_callV (as := [_, _]) okX5_toldAt bX5 rfl rfl q2003 dX5_wrong_93 (Nat.le_of_ble_eq_true rfl) rfl (Nat.le_of_ble_eq_true rfl) (Nat.le_of_ble_eq_true rfl) (Nat.le_of_ble_eq_true rfl) (pX5_toldAt hj (by omega) ?_)
        refine r_aload_n dX5_wrong_96 rfl ?_
        refine r_get bX5 26 (by decide) q1549 dX5_wrong_97 rfl rfl ?_
        refine r_iload dX5_wrong_100 rfl ?_
        refine r_ialdN dX5_wrong_102 rfl (by omega) (Nat.le_of_ble_eq_true rfl) ?_
        rw [e0]
        refine r_i2l dX5_wrong_103 ?_
        refine r_lcmp dX5_wrong_104 ?_
        refine r_if_eq 111 dX5_wrong_105 (by decide) (fun c_105 => ?_) (fun c_105 => ?_)
        · refine r_aload_n dX5_wrong_111 rfl ?_
          refine r_aload_n dX5_wrong_112 rfl ?_
          refine r_get bX5 26 (by decide) q1549 dX5_wrong_113 rfl rfl ?_
          refine r_iload dX5_wrong_116 rfl ?_
          refine r_ialdN dX5_wrong_118 rfl (by omega) (Nat.le_of_ble_eq_true rfl) ?_
          rw [e0]
          refine r_callV (as := [_]) okX5_lookerGoes bX5 rfl rfl q1694 dX5_wrong_119 (Nat.le_of_ble_eq_true rfl) rfl (Nat.le_of_ble_eq_true rfl) (Nat.le_of_ble_eq_true rfl) (Nat.le_of_ble_eq_true rfl) (pX5_lookerGoes (by omega) (hk _ e1).1 (hk _ e1).2 (ho _ e1) ?_)
          refine r_aload_n dX5_wrong_122 rfl ?_
          refine r_iload_n dX5_wrong_123 rfl ?_
          refine r_iconst 2 dX5_wrong_124 (by decide) ?_
          refine r_iload dX5_wrong_125 rfl ?_
          refine r_imul dX5_wrong_127 ?_
          refine r_iconst 1 dX5_wrong_128 (by decide) ?_
          refine r_iadd dX5_wrong_129 ?_
          rw [show (2 : Int32) * nI k = nI (2 * k) from pk_mul 2 k, nI_1]
          refine r_callV (as := [_, _]) okX5_toldAt bX5 rfl rfl q2003 dX5_wrong_130 (Nat.le_of_ble_eq_true rfl) rfl (Nat.le_of_ble_eq_true rfl) (Nat.le_of_ble_eq_true rfl) (Nat.le_of_ble_eq_true rfl) (pX5_toldAt hj (by omega) ?_)
          refine r_aload_n dX5_wrong_133 rfl ?_
          refine r_get bX5 28 (by decide) q1551 dX5_wrong_134 rfl rfl ?_
          refine r_aload_n dX5_wrong_137 rfl ?_
          refine r_get bX5 26 (by decide) q1549 dX5_wrong_138 rfl rfl ?_
          refine r_iload dX5_wrong_141 rfl ?_
          refine r_ialdN dX5_wrong_143 rfl (by omega) (Nat.le_of_ble_eq_true rfl) ?_
          rw [e0]
          refine r_ialdN dX5_wrong_144 rfl (by omega) (Nat.le_of_ble_eq_true rfl) ?_
          refine r_i2l dX5_wrong_145 ?_
          refine r_lcmp dX5_wrong_146 ?_
          refine r_if_eq 153 dX5_wrong_147 (by decide) (fun c_147 => ?_) (fun c_147 => ?_)
          · refine r_iincV dX5_wrong_153 rfl (Nat.le_of_ble_eq_true rfl) (incN _) ?_
            refine r_goto 72 dX5_wrong_156 (by decide) ?_
            refine ih ?_
            rw [e, wrG, if_pos]
            refine ⟨hL, lgcE.mp c_105, ?_⟩
            rw [runS_succ _ _ _ hL]
            exact lgcE.mp c_147
          · have e2 : wrF kN ow lk ag n th ro (40 * j) m = nI k := by
              rw [e, wrG, if_neg]
              intro z
              have z3 := z.2.2
              rw [runS_succ _ _ _ hL] at z3
              exact c_147 (lgcE.mpr z3)
            refine r_iload dX5_wrong_150 rfl ?_
            exact r_iret dX5_wrong_152 rfl (Nat.le_of_ble_eq_true rfl) (Nat.le_of_ble_eq_true rfl) (qi e2.symm (hQ _ _ _ _ _))
        · have e2 : wrF kN ow lk ag n th ro (40 * j) m = nI k := by
            rw [e, wrG, if_neg (fun z => c_105 (lgcE.mpr z.2.1))]
          refine r_iload dX5_wrong_108 rfl ?_
          exact r_iret dX5_wrong_110 rfl (Nat.le_of_ble_eq_true rfl) (Nat.le_of_ble_eq_true rfl) (qi e2.symm (hQ _ _ _ _ _))
      · have e2 : wrF kN ow lk ag n th ro (40 * j) m = nI k := by
          rw [e, wrG, if_neg (fun z => hL z.1)]
        refine r_iload dX5_wrong_72 rfl ?_
        refine r_iload_n dX5_wrong_74 rfl ?_
        refine r_icmp_ge 159 dX5_wrong_75 (by decide) (fun c_ => absurd c_ (geF hk2 (by omega))) (fun _ => ?_)
        refine r_iload dX5_wrong_78 rfl ?_
        refine r_aload_n dX5_wrong_80 rfl ?_
        refine r_get bX5 25 (by decide) q1548 dX5_wrong_81 rfl rfl ?_
        refine r_icmp_ge 108 dX5_wrong_84 (by decide) (fun _ => ?_) (fun c_ => absurd (nI_le (by omega) (by omega)) c_)
        refine r_iload dX5_wrong_108 rfl ?_
        exact r_iret dX5_wrong_110 rfl (Nat.le_of_ble_eq_true rfl) (Nat.le_of_ble_eq_true rfl) (qi e2.symm (hQ _ _ _ _ _))
  · intro k hk2 ih
    refine r_iload dX5_wrong_5 rfl ?_
    refine r_iload_n dX5_wrong_7 rfl ?_
    refine r_icmp_ge 64 dX5_wrong_8 (by decide) (fun c_ => absurd c_ (geF hk2 (by omega))) (fun _ => ?_)
    refine r_aload_n dX5_wrong_11 rfl ?_
    refine r_iload_n dX5_wrong_12 rfl ?_
    refine r_iconst 2 dX5_wrong_13 (by decide) ?_
    refine r_iload dX5_wrong_14 rfl ?_
    refine r_imul dX5_wrong_16 ?_
    rw [show (2 : Int32) * nI k = nI (2 * k) from pk_mul 2 k]
    refine r_callV (as := [_, _]) okX5_toldAt bX5 rfl rfl q2003 dX5_wrong_17 (Nat.le_of_ble_eq_true rfl) rfl (Nat.le_of_ble_eq_true rfl) (Nat.le_of_ble_eq_true rfl) (Nat.le_of_ble_eq_true rfl) (pX5_toldAt hj (by omega) ?_)
    refine r_lconst 0 dX5_wrong_20 (by decide) ?_
    refine r_lcmp dX5_wrong_21 ?_
    refine r_if_lt 58 dX5_wrong_22 (by decide) (fun c_22 => ?_) (fun c_22 => ?_)
    · refine r_iincV dX5_wrong_58 rfl (Nat.le_of_ble_eq_true rfl) (incN _) ?_
      refine r_goto 5 dX5_wrong_61 (by decide) ?_
      first | (have q1 := Int32.not_le.mp c_40; rw [tsF, if_pos ⟨c_22, q1⟩] at ih; exact ih) | (have q1 := Int32.not_lt.mpr c_40; rw [tsF, if_neg (fun z => absurd z.2 q1)] at ih; exact ih) | (have q1 := not_not_intro c_22; rw [tsF, if_neg (fun z => q1 z.1)] at ih; exact ih)
    · refine r_aload_n dX5_wrong_25 rfl ?_
      refine r_iload_n dX5_wrong_26 rfl ?_
      refine r_iconst 2 dX5_wrong_27 (by decide) ?_
      refine r_iload dX5_wrong_28 rfl ?_
      refine r_imul dX5_wrong_30 ?_
      rw [show (2 : Int32) * nI k = nI (2 * k) from pk_mul 2 k]
      refine r_callV (as := [_, _]) okX5_toldAt bX5 rfl rfl q2003 dX5_wrong_31 (Nat.le_of_ble_eq_true rfl) rfl (Nat.le_of_ble_eq_true rfl) (Nat.le_of_ble_eq_true rfl) (Nat.le_of_ble_eq_true rfl) (pX5_toldAt hj (by omega) ?_)
      refine r_aload_n dX5_wrong_34 rfl ?_
      refine r_get bX5 1 (by decide) q1524 dX5_wrong_35 rfl rfl ?_
      refine r_i2l dX5_wrong_38 ?_
      refine r_lcmp dX5_wrong_39 ?_
      refine r_if_ge 58 dX5_wrong_40 (by decide) (fun c_40 => ?_) (fun c_40 => ?_)
      · refine r_iincV dX5_wrong_58 rfl (Nat.le_of_ble_eq_true rfl) (incN _) ?_
        refine r_goto 5 dX5_wrong_61 (by decide) ?_
        first | (have q1 := Int32.not_le.mp c_40; rw [tsF, if_pos ⟨c_22, q1⟩] at ih; exact ih) | (have q1 := Int32.not_lt.mpr c_40; rw [tsF, if_neg (fun z => absurd z.2 q1)] at ih; exact ih) | (have q1 := not_not_intro c_22; rw [tsF, if_neg (fun z => q1 z.1)] at ih; exact ih)
      · refine r_iload_n dX5_wrong_43 rfl ?_
        refine r_iconst 1 dX5_wrong_44 (by decide) ?_
        refine r_aload_n dX5_wrong_45 rfl ?_
        refine r_iload_n dX5_wrong_46 rfl ?_
        refine r_iconst 2 dX5_wrong_47 (by decide) ?_
        refine r_iload dX5_wrong_48 rfl ?_
        refine r_imul dX5_wrong_50 ?_
        rw [show (2 : Int32) * nI k = nI (2 * k) from pk_mul 2 k]
        refine r_callV (as := [_, _]) okX5_toldAt bX5 rfl rfl q2003 dX5_wrong_51 (Nat.le_of_ble_eq_true rfl) rfl (Nat.le_of_ble_eq_true rfl) (Nat.le_of_ble_eq_true rfl) (Nat.le_of_ble_eq_true rfl) (pX5_toldAt hj (by omega) ?_)
        refine r_l2i dX5_wrong_54 ?_
        refine r_ishl dX5_wrong_55 ?_
        refine r_ior dX5_wrong_56 ?_
        refine r_istore_n dX5_wrong_57 (Nat.le_of_ble_eq_true rfl) ?_
        refine r_iincV dX5_wrong_58 rfl (Nat.le_of_ble_eq_true rfl) (incN _) ?_
        refine r_goto 5 dX5_wrong_61 (by decide) ?_
        first | (have q1 := Int32.not_le.mp c_40; rw [tsF, if_pos ⟨c_22, q1⟩] at ih; exact ih) | (have q1 := Int32.not_lt.mpr c_40; rw [tsF, if_neg (fun z => absurd z.2 q1)] at ih; exact ih) | (have q1 := not_not_intro c_22; rw [tsF, if_neg (fun z => q1 z.1)] at ih; exact ih)
theorem pX5_judge_bad {s m : Int32} (hb : (inB s 0 7 && inB m 0 20) = false) (hQ : Q (some (.int (-2))) ((mC th kd ow ag lk co sh hs tp hd rl ro (upd rf 2 (rf 2 + 1)) ol ah tr od tk fo wi ou ge mo my ev se td fr to tn va im lo), r)) : AMet mX5_judge 6 0 0 [.ref 0, .int s, .int m] ((mC th kd ow ag lk co sh hs tp hd rl ro rf ol ah tr od tk fo wi ou ge mo my ev se td fr to tn va im lo), r) Q := by
  refine AMet.ofRch rfl rfl (Nat.le_of_ble_eq_true rfl) ?_
  refine r_iload_n dX5_judge_0 rfl ?_
  refine r_callS (as := [_]) okX5_isShelf q1627 dX5_judge_1 (Nat.le_of_ble_eq_true rfl) rfl (Nat.le_of_ble_eq_true rfl) (Nat.le_of_ble_eq_true rfl) (Nat.le_of_ble_eq_true rfl) (pX5_isShelf ?_)
  refine r_if_eq 17 dX5_judge_4 (by decide) (fun c_4 => ?_) (fun c_4 => ?_)
  · refine r_aload_n dX5_judge_17 rfl ?_
    refine r_bipush (-2) dX5_judge_18 (by decide) ?_
    refine r_callV (as := [_]) okX5_no bX5 rfl rfl q1633 dX5_judge_20 (Nat.le_of_ble_eq_true rfl) rfl (Nat.le_of_ble_eq_true rfl) (Nat.le_of_ble_eq_true rfl) (Nat.le_of_ble_eq_true rfl) (pX5_no 2 (by decide) (by decide) ?_)
    exact r_iret dX5_judge_23 rfl (Nat.le_of_ble_eq_true rfl) (Nat.le_of_ble_eq_true rfl) (hQ)
  · refine r_iload_n dX5_judge_7 rfl ?_
    refine r_iconst 0 dX5_judge_8 (by decide) ?_
    refine r_bipush 20 dX5_judge_9 (by decide) ?_
    refine r_callS (as := [_, _, _]) okX5_within q1630 dX5_judge_11 (Nat.le_of_ble_eq_true rfl) rfl (Nat.le_of_ble_eq_true rfl) (Nat.le_of_ble_eq_true rfl) (Nat.le_of_ble_eq_true rfl) (pX5_within ?_)
    refine r_if_ne 24 dX5_judge_14 (by decide) (fun c_14 => ?_) (fun c_14 => ?_)
    · exact absurd hb (by simp_all [b2i_0])
    · refine r_aload_n dX5_judge_17 rfl ?_
      refine r_bipush (-2) dX5_judge_18 (by decide) ?_
      refine r_callV (as := [_]) okX5_no bX5 rfl rfl q1633 dX5_judge_20 (Nat.le_of_ble_eq_true rfl) rfl (Nat.le_of_ble_eq_true rfl) (Nat.le_of_ble_eq_true rfl) (Nat.le_of_ble_eq_true rfl) (pX5_no 2 (by decide) (by decide) ?_)
      exact r_iret dX5_judge_23 rfl (Nat.le_of_ble_eq_true rfl) (Nat.le_of_ble_eq_true rfl) (hQ)
theorem pX5_judge_none {j z : Nat} (hj : j < 8) (hz : z ≤ 20) (hh : hd j = -1) (hQ : Q (some (.int (-4))) ((mC th kd ow ag lk co sh hs tp hd rl ro (upd rf 4 (rf 4 + 1)) ol ah tr od tk fo wi ou ge mo my ev se td fr to tn va im lo), r)) : AMet mX5_judge 6 0 0 [.ref 0, .int (nI j), .int (nI z)] ((mC th kd ow ag lk co sh hs tp hd rl ro rf ol ah tr od tk fo wi ou ge mo my ev se td fr to tn va im lo), r) Q := by
  refine AMet.ofRch rfl rfl (Nat.le_of_ble_eq_true rfl) ?_
  refine r_iload_n dX5_judge_0 rfl ?_
  refine r_callS (as := [_]) okX5_isShelf q1627 dX5_judge_1 (Nat.le_of_ble_eq_true rfl) rfl (Nat.le_of_ble_eq_true rfl) (Nat.le_of_ble_eq_true rfl) (Nat.le_of_ble_eq_true rfl) (pX5_isShelf ?_)
  refine r_if_eq 17 dX5_judge_4 (by decide) (fun c_ => absurd c_ (b2i_n.mpr (inB_nI (N := 7) (by omega) (by decide)))) (fun _ => ?_)
  refine r_iload_n dX5_judge_7 rfl ?_
  refine r_iconst 0 dX5_judge_8 (by decide) ?_
  refine r_bipush 20 dX5_judge_9 (by decide) ?_
  refine r_callS (as := [_, _, _]) okX5_within q1630 dX5_judge_11 (Nat.le_of_ble_eq_true rfl) rfl (Nat.le_of_ble_eq_true rfl) (Nat.le_of_ble_eq_true rfl) (Nat.le_of_ble_eq_true rfl) (pX5_within ?_)
  refine r_if_ne 24 dX5_judge_14 (by decide) (fun _ => ?_) (fun c_ => absurd c_ (b2i_n.mpr (inB_nI (N := 20) (by omega) (by decide))))
  refine r_aload_n dX5_judge_24 rfl ?_
  refine r_iload_n dX5_judge_25 rfl ?_
  refine r_callV (as := [_]) okX5_isRow bX5 rfl rfl q1641 dX5_judge_26 (Nat.le_of_ble_eq_true rfl) rfl (Nat.le_of_ble_eq_true rfl) (Nat.le_of_ble_eq_true rfl) (Nat.le_of_ble_eq_true rfl) (pX5_isRow hj ?_)
  refine r_if_ne 42 dX5_judge_29 (by decide) (fun c_ => absurd (b2i_0.mpr (by rw [hh]; exact inB_neg)) c_) (fun _ => ?_)
  refine r_aload_n dX5_judge_32 rfl ?_
  refine r_aload_n dX5_judge_33 rfl ?_
  refine r_iload_n dX5_judge_34 rfl ?_
  refine r_callV (as := [_]) okX5_noRow bX5 rfl rfl q1645 dX5_judge_35 (Nat.le_of_ble_eq_true rfl) rfl (Nat.le_of_ble_eq_true rfl) (Nat.le_of_ble_eq_true rfl) (Nat.le_of_ble_eq_true rfl) (pX5_noRow hj ?_)
  rw [hh]
  refine r_callV (as := [_]) okX5_no bX5 rfl rfl q1633 dX5_judge_38 (Nat.le_of_ble_eq_true rfl) rfl (Nat.le_of_ble_eq_true rfl) (Nat.le_of_ble_eq_true rfl) (Nat.le_of_ble_eq_true rfl) (pX5_no 4 (by decide) (by decide) ?_)
  exact r_iret dX5_judge_41 rfl (Nat.le_of_ble_eq_true rfl) (Nat.le_of_ble_eq_true rfl) (hQ)
theorem pX5_judge_look {j z l : Nat} (hj : j < 8) (hz : z ≤ 20) (hl : l < 8) (hh : hd j = nI (10 + l)) (hQ : Q (some (.int (-3))) ((mC th kd ow ag lk co sh hs tp hd rl ro (upd rf 3 (rf 3 + 1)) ol ah tr od tk fo wi ou ge mo my ev se td fr to tn va im lo), r)) : AMet mX5_judge 6 0 0 [.ref 0, .int (nI j), .int (nI z)] ((mC th kd ow ag lk co sh hs tp hd rl ro rf ol ah tr od tk fo wi ou ge mo my ev se td fr to tn va im lo), r) Q := by
  refine AMet.ofRch rfl rfl (Nat.le_of_ble_eq_true rfl) ?_
  refine r_iload_n dX5_judge_0 rfl ?_
  refine r_callS (as := [_]) okX5_isShelf q1627 dX5_judge_1 (Nat.le_of_ble_eq_true rfl) rfl (Nat.le_of_ble_eq_true rfl) (Nat.le_of_ble_eq_true rfl) (Nat.le_of_ble_eq_true rfl) (pX5_isShelf ?_)
  refine r_if_eq 17 dX5_judge_4 (by decide) (fun c_ => absurd c_ (b2i_n.mpr (inB_nI (N := 7) (by omega) (by decide)))) (fun _ => ?_)
  refine r_iload_n dX5_judge_7 rfl ?_
  refine r_iconst 0 dX5_judge_8 (by decide) ?_
  refine r_bipush 20 dX5_judge_9 (by decide) ?_
  refine r_callS (as := [_, _, _]) okX5_within q1630 dX5_judge_11 (Nat.le_of_ble_eq_true rfl) rfl (Nat.le_of_ble_eq_true rfl) (Nat.le_of_ble_eq_true rfl) (Nat.le_of_ble_eq_true rfl) (pX5_within ?_)
  refine r_if_ne 24 dX5_judge_14 (by decide) (fun _ => ?_) (fun c_ => absurd c_ (b2i_n.mpr (inB_nI (N := 20) (by omega) (by decide))))
  refine r_aload_n dX5_judge_24 rfl ?_
  refine r_iload_n dX5_judge_25 rfl ?_
  refine r_callV (as := [_]) okX5_isRow bX5 rfl rfl q1641 dX5_judge_26 (Nat.le_of_ble_eq_true rfl) rfl (Nat.le_of_ble_eq_true rfl) (Nat.le_of_ble_eq_true rfl) (Nat.le_of_ble_eq_true rfl) (pX5_isRow hj ?_)
  refine r_if_ne 42 dX5_judge_29 (by decide) (fun c_ => absurd (b2i_0.mpr (by rw [hh]; exact inB_nIf (N := 4) (by omega) (by omega))) c_) (fun _ => ?_)
  refine r_aload_n dX5_judge_32 rfl ?_
  refine r_aload_n dX5_judge_33 rfl ?_
  refine r_iload_n dX5_judge_34 rfl ?_
  refine r_callV (as := [_]) okX5_noRow bX5 rfl rfl q1645 dX5_judge_35 (Nat.le_of_ble_eq_true rfl) rfl (Nat.le_of_ble_eq_true rfl) (Nat.le_of_ble_eq_true rfl) (Nat.le_of_ble_eq_true rfl) (pX5_noRow hj ?_)
  rw [hh, if_pos (show (10 : Int32) ≤ nI (10 + l) from nI_le (a := 10) (by omega) (by omega))]
  refine r_callV (as := [_]) okX5_no bX5 rfl rfl q1633 dX5_judge_38 (Nat.le_of_ble_eq_true rfl) rfl (Nat.le_of_ble_eq_true rfl) (Nat.le_of_ble_eq_true rfl) (Nat.le_of_ble_eq_true rfl) (pX5_no 3 (by decide) (by decide) ?_)
  exact r_iret dX5_judge_41 rfl (Nat.le_of_ble_eq_true rfl) (Nat.le_of_ble_eq_true rfl) (hQ)
theorem pX5_judge_row {j z k m : Nat} (hn : n ≤ 8) (hk : ∀ j, j < n → kd j = nI (kN j) ∧ kN j < 6) (ho : ∀ j, j < n → ow j ≠ -1) (hj : j < 8) (hz : z ≤ 20) (hkk : k < 5) (hh : hd j = nI k) (hm : m ≤ 40) (hl : rl j = nI m) (hbad : m < 2 * z → Q (some (.int (-2))) ((mC th kd ow ag lk co sh hs tp hd rl ro (upd rf 2 (rf 2 + 1)) ol ah tr od tk fo wi ou ge mo (nI n) ev se td fr to tn va im lo), r)) (hok : ¬ m < 2 * z → ∀ (tr tk fo od : Nat → Int32) (lo : Int32), Q (some (.int (wrF kN ow lk ag n th ro (40 * j) z))) ((mC th kd ow ag lk co sh hs tp hd rl ro rf ol ah tr od tk fo wi ou ge mo (nI n) ev se td fr to tn va im lo), r)) : AMet mX5_judge 6 0 0 [.ref 0, .int (nI j), .int (nI z)] ((mC th kd ow ag lk co sh hs tp hd rl ro rf ol ah tr od tk fo wi ou ge mo (nI n) ev se td fr to tn va im lo), r) Q := by
  refine AMet.ofRch rfl rfl (Nat.le_of_ble_eq_true rfl) ?_
  by_cases g : m < 2 * z
  · have hq := hbad g
    refine r_iload_n dX5_judge_0 rfl ?_
    refine r_callS (as := [_]) okX5_isShelf q1627 dX5_judge_1 (Nat.le_of_ble_eq_true rfl) rfl (Nat.le_of_ble_eq_true rfl) (Nat.le_of_ble_eq_true rfl) (Nat.le_of_ble_eq_true rfl) (pX5_isShelf ?_)
    refine r_if_eq 17 dX5_judge_4 (by decide) (fun c_ => absurd c_ (b2i_n.mpr (inB_nI (N := 7) (by omega) (by decide)))) (fun _ => ?_)
    refine r_iload_n dX5_judge_7 rfl ?_
    refine r_iconst 0 dX5_judge_8 (by decide) ?_
    refine r_bipush 20 dX5_judge_9 (by decide) ?_
    refine r_callS (as := [_, _, _]) okX5_within q1630 dX5_judge_11 (Nat.le_of_ble_eq_true rfl) rfl (Nat.le_of_ble_eq_true rfl) (Nat.le_of_ble_eq_true rfl) (Nat.le_of_ble_eq_true rfl) (pX5_within ?_)
    refine r_if_ne 24 dX5_judge_14 (by decide) (fun _ => ?_) (fun c_ => absurd c_ (b2i_n.mpr (inB_nI (N := 20) (by omega) (by decide))))
    refine r_aload_n dX5_judge_24 rfl ?_
    refine r_iload_n dX5_judge_25 rfl ?_
    refine r_callV (as := [_]) okX5_isRow bX5 rfl rfl q1641 dX5_judge_26 (Nat.le_of_ble_eq_true rfl) rfl (Nat.le_of_ble_eq_true rfl) (Nat.le_of_ble_eq_true rfl) (Nat.le_of_ble_eq_true rfl) (pX5_isRow hj ?_)
    refine r_if_ne 42 dX5_judge_29 (by decide) (fun _ => ?_) (fun c_ => absurd c_ (b2i_n.mpr (by rw [hh]; exact inB_nI (N := 4) (by omega) (by decide))))
    refine r_iconst 2 dX5_judge_42 (by decide) ?_
    refine r_iload_n dX5_judge_43 rfl ?_
    refine r_imul dX5_judge_44 ?_
    refine r_aload_n dX5_judge_45 rfl ?_
    refine r_get bX5 18 (by decide) q1541 dX5_judge_46 rfl rfl ?_
    refine r_iload_n dX5_judge_49 rfl ?_
    refine r_ialdN dX5_judge_50 rfl (by omega) (Nat.le_of_ble_eq_true rfl) ?_
    rw [hl, show (2 : Int32) * nI z = nI (2 * z) from pk_mul 2 z]
    refine r_icmp_le 63 dX5_judge_51 (by decide) (fun c_ => absurd c_ (nI_ge g (by omega))) (fun _ => ?_)
    refine r_aload_n dX5_judge_54 rfl ?_
    refine r_bipush (-2) dX5_judge_55 (by decide) ?_
    refine r_callV (as := [_]) okX5_no bX5 rfl rfl q1633 dX5_judge_57 (Nat.le_of_ble_eq_true rfl) rfl (Nat.le_of_ble_eq_true rfl) (Nat.le_of_ble_eq_true rfl) (Nat.le_of_ble_eq_true rfl) (pX5_no 2 (by decide) (by decide) ?_)
    refine r_goto 69 dX5_judge_60 (by decide) ?_
    exact r_iret dX5_judge_69 rfl (Nat.le_of_ble_eq_true rfl) (Nat.le_of_ble_eq_true rfl) (hq)
  · have hq := hok g
    refine r_iload_n dX5_judge_0 rfl ?_
    refine r_callS (as := [_]) okX5_isShelf q1627 dX5_judge_1 (Nat.le_of_ble_eq_true rfl) rfl (Nat.le_of_ble_eq_true rfl) (Nat.le_of_ble_eq_true rfl) (Nat.le_of_ble_eq_true rfl) (pX5_isShelf ?_)
    refine r_if_eq 17 dX5_judge_4 (by decide) (fun c_ => absurd c_ (b2i_n.mpr (inB_nI (N := 7) (by omega) (by decide)))) (fun _ => ?_)
    refine r_iload_n dX5_judge_7 rfl ?_
    refine r_iconst 0 dX5_judge_8 (by decide) ?_
    refine r_bipush 20 dX5_judge_9 (by decide) ?_
    refine r_callS (as := [_, _, _]) okX5_within q1630 dX5_judge_11 (Nat.le_of_ble_eq_true rfl) rfl (Nat.le_of_ble_eq_true rfl) (Nat.le_of_ble_eq_true rfl) (Nat.le_of_ble_eq_true rfl) (pX5_within ?_)
    refine r_if_ne 24 dX5_judge_14 (by decide) (fun _ => ?_) (fun c_ => absurd c_ (b2i_n.mpr (inB_nI (N := 20) (by omega) (by decide))))
    refine r_aload_n dX5_judge_24 rfl ?_
    refine r_iload_n dX5_judge_25 rfl ?_
    refine r_callV (as := [_]) okX5_isRow bX5 rfl rfl q1641 dX5_judge_26 (Nat.le_of_ble_eq_true rfl) rfl (Nat.le_of_ble_eq_true rfl) (Nat.le_of_ble_eq_true rfl) (Nat.le_of_ble_eq_true rfl) (pX5_isRow hj ?_)
    refine r_if_ne 42 dX5_judge_29 (by decide) (fun _ => ?_) (fun c_ => absurd c_ (b2i_n.mpr (by rw [hh]; exact inB_nI (N := 4) (by omega) (by decide))))
    refine r_iconst 2 dX5_judge_42 (by decide) ?_
    refine r_iload_n dX5_judge_43 rfl ?_
    refine r_imul dX5_judge_44 ?_
    refine r_aload_n dX5_judge_45 rfl ?_
    refine r_get bX5 18 (by decide) q1541 dX5_judge_46 rfl rfl ?_
    refine r_iload_n dX5_judge_49 rfl ?_
    refine r_ialdN dX5_judge_50 rfl (by omega) (Nat.le_of_ble_eq_true rfl) ?_
    rw [hl, show (2 : Int32) * nI z = nI (2 * z) from pk_mul 2 z]
    refine r_icmp_le 63 dX5_judge_51 (by decide) (fun _ => ?_) (fun c_ => absurd (nI_le (by omega) (by omega)) c_)
    refine r_aload_n dX5_judge_63 rfl ?_
    refine r_iload_n dX5_judge_64 rfl ?_
    refine r_iload_n dX5_judge_65 rfl ?_
    refine r_callV (as := [_, _]) okX5_wrong bX5 rfl rfl q1999 dX5_judge_66 (Nat.le_of_ble_eq_true rfl) rfl (Nat.le_of_ble_eq_true rfl) (Nat.le_of_ble_eq_true rfl) (Nat.le_of_ble_eq_true rfl) (pX5_wrong hn hk ho hj hz (fun tr2 tk2 fo2 od2 lo2 => ?_))
    exact r_iret dX5_judge_69 rfl (Nat.le_of_ble_eq_true rfl) (Nat.le_of_ble_eq_true rfl) (hq _ _ _ _ _)
end MM
