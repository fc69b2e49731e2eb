set_option maxRecDepth 100000
/-! the reference: swaps -/
def oF (sh : Nat → Int32) : Nat → Int32 := fun l => if sh l = -1 then 1 else 0
def sw0 (sh ou ge : Nat → Int32) (n : Nat) : SW := (fillF (oF sh) ou n, fillF (fun _ => -1) ge n)
theorem cnt_mono {c : Nat → Bool} {a b : Nat} (h : a ≤ b) : cntI c a ≤ cntI c b := by
  induction b with
  | zero => rw [show a = 0 by omega]; exact Nat.le_refl _
  | succ b ih =>
    by_cases e : a = b + 1
    · rw [e]; exact Nat.le_refl _
    · have := ih (by omega)
      simp only [cntI]
      omega
section MM
variable {th kd ow ag lk co sh hs tp hd rl : Nat → Int32} {ro : Nat → Int64} {rf ol ah tr od tk fo wi ou ge mo : Nat → Int32} {my ev se td fr to tn va im lo : Int32} {r : List AC × List AC × List AC} {Q : Option Value → AHp → Prop}
variable {n : Nat} {kN : Nat → Nat}
theorem pX5_swaps (hn : n ≤ 8) (hQ : ∀ wi' : Nat → Int32, Q none ((mC th kd ow ag lk co sh hs tp hd rl ro rf ol ah tr od tk fo (wi') ((swI sh ow lk n n (sw0 sh ou ge n)).1) ((swI sh ow lk n n (sw0 sh ou ge n)).2) mo (nI n) ev se td fr to tn va im lo), r)) : AMet mX5_swaps 3 0 0 [.ref 0] ((mC th kd ow ag lk co sh hs tp hd rl ro rf ol ah tr od tk fo wi ou ge mo (nI n) ev se td fr to tn va im lo), r) Q := by
  refine AMet.ofRch rfl rfl (Nat.le_of_ble_eq_true rfl) ?_
  have v1 : vp_nar .boolean 1 = 1 := by decide
  have v0 : vp_nar .boolean 0 = 0 := by decide
  generalize hF : swI sh ow lk n n (sw0 sh ou ge n) = Fin at hQ
  have main : ∀ (m : Nat) (S : SW), inC n S.1 = m → ∀ q, m ≤ q → swI sh ow lk n q S = Fin → ∀ (wi : Nat → Int32) (x y : Option Value), Rch (mX5_swaps, 3, 0, 0, oQ Q) 0 0 58 [some (.ref 0), some (.int (nI m)), x, y] [] ((mC th kd ow ag lk co sh hs tp hd rl ro rf ol ah tr od tk fo (wi) (S.1) (S.2) mo (nI n) ev se td fr to tn va im lo), r) := by
    intro m
    induction m using Nat.strongRecOn with
    | ind m ih =>
    intro S hm q hq hs1 wi x y
    have hm8 : m ≤ 8 := by rw [← hm]; exact Nat.le_trans (cntI_le _ n) hn
    by_cases m0 : m = 0
    · subst m0
      rw [swI_id hm] at hs1
      subst hs1
      refine r_iload_n dX5_swaps_58 rfl ?_
      refine r_if_le 196 dX5_swaps_59 (by decide) (fun _ => ?_) (fun c_ => absurd (Int32.le_refl _) c_)
      exact r_vret dX5_swaps_196 rfl (Nat.le_of_ble_eq_true rfl) (Nat.le_of_ble_eq_true rfl) (hQ _)
    · refine r_iload_n dX5_swaps_58 rfl ?_
      refine r_if_le 196 dX5_swaps_59 (by decide) (fun c_ => absurd c_ (nI_nle (by omega) (by omega))) (fun _ => ?_)
      refine r_iconst 0 dX5_swaps_62 (by decide) ?_
      refine r_istore_n dX5_swaps_63 (Nat.le_of_ble_eq_true rfl) ?_
      refine eqP (P := fun z => Rch (mX5_swaps, 3, 0, 0, oQ Q) 0 0 64 [some (.ref 0), some (.int (nI m)), some (.int (nI 0)), y] [] ((mC th kd ow ag lk co sh hs tp hd rl ro rf ol ah tr od tk fo (z) (S.1) (S.2) mo (nI n) ev se td fr to tn va im lo), r)) (geR_0 (fun l => S.1 l == 0) (wiF sh S.1 ow lk n) wi) ?_
      refine loopUp (N := n) (P := fun k => Rch (mX5_swaps, 3, 0, 0, oQ Q) 0 0 64 [some (.ref 0), some (.int (nI m)), some (.int (nI k)), y] [] ((mC th kd ow ag lk co sh hs tp hd rl ro rf ol ah tr od tk fo (geR (fun l => S.1 l == 0) (wiF sh S.1 ow lk n) wi k) (S.1) (S.2) mo (nI n) ev se td fr to tn va im lo), r)) ?_ ?_
      · have hW : ∀ j, j < n ∧ S.1 j = 0 → geR (fun l => S.1 l == 0) (wiF sh S.1 ow lk n) wi n j = nI (wiN sh S.1 ow lk n j) := by
          intro j hj
          simp only [geR]
          rw [if_pos (show j < n ∧ (S.1 j == 0) = true from ⟨hj.1, by rw [hj.2]; rfl⟩)]
          exact (wiN_P hn hj).2
        refine r_iload_n dX5_swaps_64 rfl ?_
        refine r_aload_n dX5_swaps_65 rfl ?_
        refine r_get bX5 1 (by decide) q1524 dX5_swaps_66 rfl rfl ?_
        refine r_icmp_ge 98 dX5_swaps_69 (by decide) (fun _ => ?_) (fun c_ => absurd (Int32.le_refl _) c_)
        refine r_iconst 0 dX5_swaps_98 (by decide) ?_
        refine r_istore_n dX5_swaps_99 (Nat.le_of_ble_eq_true rfl) ?_
        refine r_iconst 0 dX5_swaps_100 (by decide) ?_
        refine r_istore_n dX5_swaps_101 (Nat.le_of_ble_eq_true rfl) ?_
        generalize geR (fun l => S.1 l == 0) (wiF sh S.1 ow lk n) wi n = W at hW ⊢
        refine loopUp (N := n) (P := fun k => Rch (mX5_swaps, 3, 0, 0, oQ Q) 0 0 102 [some (.ref 0), some (.int (nI m)), some (.int (bitsI (rgB sh S.1 ow lk n) k)), some (.int (nI k))] [] ((mC th kd ow ag lk co sh hs tp hd rl ro rf ol ah tr od tk fo (W) (S.1) (S.2) mo (nI n) ev se td fr to tn va im lo), r)) ?_ ?_
        · refine r_iload_n dX5_swaps_102 rfl ?_
          refine r_aload_n dX5_swaps_103 rfl ?_
          refine r_get bX5 1 (by decide) q1524 dX5_swaps_104 rfl rfl ?_
          refine r_icmp_ge 139 dX5_swaps_107 (by decide) (fun _ => ?_) (fun c_ => absurd (Int32.le_refl _) c_)
          refine r_iconst 0 dX5_swaps_139 (by decide) ?_
          refine r_istore_n dX5_swaps_140 (Nat.le_of_ble_eq_true rfl) ?_
          have hcn := swR_cnt (sh := sh) (ow := ow) (lk := lk) (n := n) S
          have hle := swR_less (sh := sh) (ow := ow) (lk := lk) (S := S) hn (by omega)
          refine eqP (P := fun z => Rch (mX5_swaps, 3, 0, 0, oQ Q) 0 0 141 [some (.ref 0), some (.int (nI m)), some (.int (bitsI (rgB sh S.1 ow lk n) n)), some (.int (nI 0))] [] ((mC th kd ow ag lk co sh hs tp hd rl ro rf ol ah tr od tk fo (W) (z) (S.2) mo (nI n) ev se td fr to tn va im lo), r)) (geR_0 (rgB sh S.1 ow lk n) (fun _ => 1) S.1) ?_
          refine eqP (P := fun z => Rch (mX5_swaps, 3, 0, 0, oQ Q) 0 0 141 [some (.ref 0), some (.int (nI m)), some (.int (bitsI (rgB sh S.1 ow lk n) n)), some (.int (nI 0))] [] ((mC th kd ow ag lk co sh hs tp hd rl ro rf ol ah tr od tk fo (W) (geR (rgB sh S.1 ow lk n) (fun _ => 1) S.1 0) (z) mo (nI n) ev se td fr to tn va im lo), r)) (geR_0 (rgB sh S.1 ow lk n) (fun l => sh (wiN sh S.1 ow lk n l)) S.2) ?_
          refine loopUp (N := n) (P := fun k => Rch (mX5_swaps, 3, 0, 0, oQ Q) 0 0 141 [some (.ref 0), some (.int (nI (m - cntI (rgB sh S.1 ow lk n) k))), some (.int (bitsI (rgB sh S.1 ow lk n) n)), some (.int (nI k))] [] ((mC th kd ow ag lk co sh hs tp hd rl ro rf ol ah tr od tk fo (W) (geR (rgB sh S.1 ow lk n) (fun _ => 1) S.1 k) (geR (rgB sh S.1 ow lk n) (fun l => sh (wiN sh S.1 ow lk n l)) S.2 k) mo (nI n) ev se td fr to tn va im lo), r)) ?_ ?_
          · match q, hq, hs1 with
            | 0, hq, _ => exact absurd hq (by omega)
            | q + 1, hq, hs1 =>
              have e2 : m - cntI (rgB sh S.1 ow lk n) n = inC n (swR sh ow lk n S).1 := by omega
              rw [e2]
              refine r_iload_n dX5_swaps_141 rfl ?_
              refine r_aload_n dX5_swaps_142 rfl ?_
              refine r_get bX5 1 (by decide) q1524 dX5_swaps_143 rfl rfl ?_
              refine r_icmp_ge 193 dX5_swaps_146 (by decide) (fun _ => ?_) (fun c_ => absurd (Int32.le_refl _) c_)
              refine r_goto 58 dX5_swaps_193 (by decide) ?_
              exact ih _ (by omega) (swR sh ow lk n S) rfl q (by omega) hs1 W _ _
          · intro k hk ih2
            have hb := bits_has (c := rgB sh S.1 ow lk n) (m := k) n (by omega) hk
            by_cases g : rgB sh S.1 ow lk n k = true
            · have g0 : k < n ∧ S.1 k = 0 := by
                refine ⟨hk, ?_⟩
                unfold rgB at g
                simp only [Bool.and_eq_true, beq_iff_eq] at g
                exact g.1
              have hc1 : cntI (rgB sh S.1 ow lk n) (k + 1) = cntI (rgB sh S.1 ow lk n) k + 1 := by simp [cntI, g]
              have hc2 : cntI (rgB sh S.1 ow lk n) (k + 1) ≤ cntI (rgB sh S.1 ow lk n) n := cnt_mono (by omega)
              have hW2 := hW k g0
              have hwn := (wiN_P (sh := sh) (ow := ow) (lk := lk) hn g0).1.1
              rw [← geR_t (F := fun _ => 1) g, ← geR_t (F := fun l => sh (wiN sh S.1 ow lk n l)) g] at ih2
              rw [show m - cntI (rgB sh S.1 ow lk n) k = (m - cntI (rgB sh S.1 ow lk n) (k + 1)) + 1 by omega]
              refine r_iload_n dX5_swaps_141 rfl ?_
              refine r_aload_n dX5_swaps_142 rfl ?_
              refine r_get bX5 1 (by decide) q1524 dX5_swaps_143 rfl rfl ?_
              refine r_icmp_ge 193 dX5_swaps_146 (by decide) (fun c_ => absurd c_ (geF hk (by omega))) (fun _ => ?_)
              refine r_iload_n dX5_swaps_149 rfl ?_
              refine r_iload_n dX5_swaps_150 rfl ?_
              refine r_callS (as := [_, _]) okX5_in q1691 dX5_swaps_151 (Nat.le_of_ble_eq_true rfl) rfl (Nat.le_of_ble_eq_true rfl) (Nat.le_of_ble_eq_true rfl) (Nat.le_of_ble_eq_true rfl) (pX5_in ?_)
              refine r_if_ne 160 dX5_swaps_154 (by decide) (fun _ => ?_) (fun c_ => absurd c_ (b2i_n.mpr (hb.trans g)))
              refine r_aload_n dX5_swaps_160 rfl ?_
              refine r_get bX5 31 (by decide) q1554 dX5_swaps_161 rfl rfl ?_
              refine r_iload_n dX5_swaps_164 rfl ?_
              refine r_aload_n dX5_swaps_165 rfl ?_
              refine r_get bX5 7 (by decide) q1530 dX5_swaps_166 rfl rfl ?_
              refine r_aload_n dX5_swaps_169 rfl ?_
              refine r_get bX5 29 (by decide) q1552 dX5_swaps_170 rfl rfl ?_
              refine r_iload_n dX5_swaps_173 rfl ?_
              refine r_ialdN dX5_swaps_174 rfl (by omega) (Nat.le_of_ble_eq_true rfl) ?_
              rw [hW2]
              refine r_ialdN dX5_swaps_175 rfl (by omega) (Nat.le_of_ble_eq_true rfl) ?_
              refine r_iastN dX5_swaps_176 rfl (by omega) (Nat.le_of_ble_eq_true rfl) ?_
              refine r_aload_n dX5_swaps_177 rfl ?_
              refine r_get bX5 30 (by decide) q1553 dX5_swaps_178 rfl rfl ?_
              refine r_iload_n dX5_swaps_181 rfl ?_
              refine r_iconst 1 dX5_swaps_182 (by decide) ?_
              refine r_zastN dX5_swaps_183 rfl (by omega) (Nat.le_of_ble_eq_true rfl) ?_
              rw [v1]
              refine r_iincV dX5_swaps_184 rfl (Nat.le_of_ble_eq_true rfl) (decN _) ?_
              refine r_iincV dX5_swaps_187 rfl (Nat.le_of_ble_eq_true rfl) (incN _) ?_
              refine r_goto 141 dX5_swaps_190 (by decide) ?_
              exact ih2
            · have hc1 : cntI (rgB sh S.1 ow lk n) (k + 1) = cntI (rgB sh S.1 ow lk n) k := by simp [cntI, g]
              rw [geR_f g, geR_f g, hc1] at ih2
              refine r_iload_n dX5_swaps_141 rfl ?_
              refine r_aload_n dX5_swaps_142 rfl ?_
              refine r_get bX5 1 (by decide) q1524 dX5_swaps_143 rfl rfl ?_
              refine r_icmp_ge 193 dX5_swaps_146 (by decide) (fun c_ => absurd c_ (geF hk (by omega))) (fun _ => ?_)
              refine r_iload_n dX5_swaps_149 rfl ?_
              refine r_iload_n dX5_swaps_150 rfl ?_
              refine r_callS (as := [_, _]) okX5_in q1691 dX5_swaps_151 (Nat.le_of_ble_eq_true rfl) rfl (Nat.le_of_ble_eq_true rfl) (Nat.le_of_ble_eq_true rfl) (Nat.le_of_ble_eq_true rfl) (pX5_in ?_)
              refine r_if_ne 160 dX5_swaps_154 (by decide) (fun c_ => absurd (b2i_0.mpr (hb.trans (by simpa using g))) c_) (fun _ => ?_)
              refine r_goto 187 dX5_swaps_157 (by decide) ?_
              refine r_iincV dX5_swaps_187 rfl (Nat.le_of_ble_eq_true rfl) (incN _) ?_
              refine r_goto 141 dX5_swaps_190 (by decide) ?_
              exact ih2
        · intro k hk ih2
          simp only [bitsI] at ih2
          by_cases g : S.1 k = 0
          · have eR : rgB sh S.1 ow lk n k = rgG (wiN sh S.1 ow lk n) k n (wiN sh S.1 ow lk n k) := by simp [rgB, g]
            rw [eR] at ih2
            refine r_iload_n dX5_swaps_102 rfl ?_
            refine r_aload_n dX5_swaps_103 rfl ?_
            refine r_get bX5 1 (by decide) q1524 dX5_swaps_104 rfl rfl ?_
            refine r_icmp_ge 139 dX5_swaps_107 (by decide) (fun c_ => absurd c_ (geF hk (by omega))) (fun _ => ?_)
            refine r_aload_n dX5_swaps_110 rfl ?_
            refine r_get bX5 30 (by decide) q1553 dX5_swaps_111 rfl rfl ?_
            refine r_iload_n dX5_swaps_114 rfl ?_
            refine r_zaldN dX5_swaps_115 rfl (by omega) (Nat.le_of_ble_eq_true rfl) ?_
            refine r_if_ne 133 dX5_swaps_116 (by decide) (fun c_ => absurd (g) c_) (fun _ => ?_)
            refine r_aload_n dX5_swaps_119 rfl ?_
            refine r_iload_n dX5_swaps_120 rfl ?_
            refine r_callV (as := [_]) okX5_isRing bX5 rfl rfl q1983 dX5_swaps_121 (Nat.le_of_ble_eq_true rfl) rfl (Nat.le_of_ble_eq_true rfl) (Nat.le_of_ble_eq_true rfl) (Nat.le_of_ble_eq_true rfl) (pX5_isRing (wN := wiN sh S.1 ow lk n) (A := fun j => j < n ∧ S.1 j = 0) hn (fun j hj => ⟨hj.1, hW j hj, (wiN_P hn hj).1⟩) ⟨hk, g⟩ ?_)
            refine r_if_eq 133 dX5_swaps_124 (by decide) (fun c_124 => ?_) (fun c_124 => ?_)
            · refine r_iincV dX5_swaps_133 rfl (Nat.le_of_ble_eq_true rfl) (incN _) ?_
              refine r_goto 102 dX5_swaps_136 (by decide) ?_
              first | (have q1 := b2i_0.mp c_124; rw [if_neg (by rw [q1]; decide), or0] at ih2; exact ih2) | (have q1 := b2i_n.mp c_124; rw [if_pos q1] at ih2; exact ih2)
            · refine r_iload_n dX5_swaps_127 rfl ?_
              refine r_iconst 1 dX5_swaps_128 (by decide) ?_
              refine r_iload_n dX5_swaps_129 rfl ?_
              refine r_ishl dX5_swaps_130 ?_
              refine r_ior dX5_swaps_131 ?_
              refine r_istore_n dX5_swaps_132 (Nat.le_of_ble_eq_true rfl) ?_
              refine r_iincV dX5_swaps_133 rfl (Nat.le_of_ble_eq_true rfl) (incN _) ?_
              refine r_goto 102 dX5_swaps_136 (by decide) ?_
              first | (have q1 := b2i_0.mp c_124; rw [if_neg (by rw [q1]; decide), or0] at ih2; exact ih2) | (have q1 := b2i_n.mp c_124; rw [if_pos q1] at ih2; exact ih2)
          · have eR : ¬ rgB sh S.1 ow lk n k = true := by simp [rgB, g]
            rw [if_neg eR, or0] at ih2
            refine r_iload_n dX5_swaps_102 rfl ?_
            refine r_aload_n dX5_swaps_103 rfl ?_
            refine r_get bX5 1 (by decide) q1524 dX5_swaps_104 rfl rfl ?_
            refine r_icmp_ge 139 dX5_swaps_107 (by decide) (fun c_ => absurd c_ (geF hk (by omega))) (fun _ => ?_)
            refine r_aload_n dX5_swaps_110 rfl ?_
            refine r_get bX5 30 (by decide) q1553 dX5_swaps_111 rfl rfl ?_
            refine r_iload_n dX5_swaps_114 rfl ?_
            refine r_zaldN dX5_swaps_115 rfl (by omega) (Nat.le_of_ble_eq_true rfl) ?_
            refine r_if_ne 133 dX5_swaps_116 (by decide) (fun _ => ?_) (fun c_ => absurd c_ (g))
            refine r_iincV dX5_swaps_133 rfl (Nat.le_of_ble_eq_true rfl) (incN _) ?_
            refine r_goto 102 dX5_swaps_136 (by decide) ?_
            exact ih2
      · intro k hk ih2
        by_cases g : S.1 k = 0
        · rw [← geR_t (c := fun l => S.1 l == 0) (by simp [g])] at ih2
          refine r_iload_n dX5_swaps_64 rfl ?_
          refine r_aload_n dX5_swaps_65 rfl ?_
          refine r_get bX5 1 (by decide) q1524 dX5_swaps_66 rfl rfl ?_
          refine r_icmp_ge 98 dX5_swaps_69 (by decide) (fun c_ => absurd c_ (geF hk (by omega))) (fun _ => ?_)
          refine r_aload_n dX5_swaps_72 rfl ?_
          refine r_get bX5 30 (by decide) q1553 dX5_swaps_73 rfl rfl ?_
          refine r_iload_n dX5_swaps_76 rfl ?_
          refine r_zaldN dX5_swaps_77 rfl (by omega) (Nat.le_of_ble_eq_true rfl) ?_
          refine r_if_ne 92 dX5_swaps_78 (by decide) (fun c_ => absurd (g) c_) (fun _ => ?_)
          refine r_aload_n dX5_swaps_81 rfl ?_
          refine r_get bX5 29 (by decide) q1552 dX5_swaps_82 rfl rfl ?_
          refine r_iload_n dX5_swaps_85 rfl ?_
          refine r_aload_n dX5_swaps_86 rfl ?_
          refine r_iload_n dX5_swaps_87 rfl ?_
          refine r_callV (as := [_]) okX5_wishOf bX5 rfl rfl q1975 dX5_swaps_88 (Nat.le_of_ble_eq_true rfl) rfl (Nat.le_of_ble_eq_true rfl) (Nat.le_of_ble_eq_true rfl) (Nat.le_of_ble_eq_true rfl) (pX5_wishOf hn hk ?_)
          refine r_iastN dX5_swaps_91 rfl (by omega) (Nat.le_of_ble_eq_true rfl) ?_
          refine r_iincV dX5_swaps_92 rfl (Nat.le_of_ble_eq_true rfl) (incN _) ?_
          refine r_goto 64 dX5_swaps_95 (by decide) ?_
          exact ih2
        · rw [geR_f (c := fun l => S.1 l == 0) (by simp [g])] at ih2
          refine r_iload_n dX5_swaps_64 rfl ?_
          refine r_aload_n dX5_swaps_65 rfl ?_
          refine r_get bX5 1 (by decide) q1524 dX5_swaps_66 rfl rfl ?_
          refine r_icmp_ge 98 dX5_swaps_69 (by decide) (fun c_ => absurd c_ (geF hk (by omega))) (fun _ => ?_)
          refine r_aload_n dX5_swaps_72 rfl ?_
          refine r_get bX5 30 (by decide) q1553 dX5_swaps_73 rfl rfl ?_
          refine r_iload_n dX5_swaps_76 rfl ?_
          refine r_zaldN dX5_swaps_77 rfl (by omega) (Nat.le_of_ble_eq_true rfl) ?_
          refine r_if_ne 92 dX5_swaps_78 (by decide) (fun _ => ?_) (fun c_ => absurd c_ (g))
          refine r_iincV dX5_swaps_92 rfl (Nat.le_of_ble_eq_true rfl) (incN _) ?_
          refine r_goto 64 dX5_swaps_95 (by decide) ?_
          exact ih2
  refine r_iconst 0 dX5_swaps_0 (by decide) ?_
  refine r_istore_n dX5_swaps_1 (Nat.le_of_ble_eq_true rfl) ?_
  refine r_iconst 0 dX5_swaps_2 (by decide) ?_
  refine r_istore_n dX5_swaps_3 (Nat.le_of_ble_eq_true rfl) ?_
  refine eqP (P := fun z => Rch (mX5_swaps, 3, 0, 0, oQ Q) 0 0 4 [some (.ref 0), some (.int (nI 0)), some (.int (nI 0)), none] [] ((mC th kd ow ag lk co sh hs tp hd rl ro rf ol ah tr od tk fo wi (z) ge mo (nI n) ev se td fr to tn va im lo), r)) (fill_0 (oF sh) ou) ?_
  refine eqP (P := fun z => Rch (mX5_swaps, 3, 0, 0, oQ Q) 0 0 4 [some (.ref 0), some (.int (nI 0)), some (.int (nI 0)), none] [] ((mC th kd ow ag lk co sh hs tp hd rl ro rf ol ah tr od tk fo wi (fillF (oF sh) ou 0) (z) mo (nI n) ev se td fr to tn va im lo), r)) (fill_0 (fun _ => -1) ge) ?_
  refine loopUp (N := n) (P := fun k => Rch (mX5_swaps, 3, 0, 0, oQ Q) 0 0 4 [some (.ref 0), some (.int (nI (cntI (fun l => oF sh l == 0) k))), some (.int (nI k)), none] [] ((mC th kd ow ag lk co sh hs tp hd rl ro rf ol ah tr od tk fo wi (fillF (oF sh) ou k) (fillF (fun _ => -1) ge k) mo (nI n) ev se td fr to tn va im lo), r)) ?_ ?_
  · have e1 : inC n (sw0 sh ou ge n).1 = cntI (fun l => oF sh l == 0) n := cntI_congr n (fun j hj => by
      show (fillF (oF sh) ou n j == 0) = (oF sh j == 0)
      rw [fill_in hj])
    refine r_iload_n dX5_swaps_4 rfl ?_
    refine r_aload_n dX5_swaps_5 rfl ?_
    refine r_get bX5 1 (by decide) q1524 dX5_swaps_6 rfl rfl ?_
    refine r_icmp_ge 58 dX5_swaps_9 (by decide) (fun _ => ?_) (fun c_ => absurd (Int32.le_refl _) c_)
    exact main _ (sw0 sh ou ge n) e1 n (cntI_le _ n) hF wi _ _
  · intro k hk ih
    rw [← fill_up, ← fill_up] at ih
    by_cases g : sh k = -1
    · have eo : oF sh k = 1 := by simp [oF, g]
      simp only [cntI, eo] at ih
      refine r_iload_n dX5_swaps_4 rfl ?_
      refine r_aload_n dX5_swaps_5 rfl ?_
      refine r_get bX5 1 (by decide) q1524 dX5_swaps_6 rfl rfl ?_
      refine r_icmp_ge 58 dX5_swaps_9 (by decide) (fun c_ => absurd c_ (geF hk (by omega))) (fun _ => ?_)
      refine r_aload_n dX5_swaps_12 rfl ?_
      refine r_get bX5 30 (by decide) q1553 dX5_swaps_13 rfl rfl ?_
      refine r_iload_n dX5_swaps_16 rfl ?_
      refine r_aload_n dX5_swaps_17 rfl ?_
      refine r_get bX5 7 (by decide) q1530 dX5_swaps_18 rfl rfl ?_
      refine r_iload_n dX5_swaps_21 rfl ?_
      refine r_ialdN dX5_swaps_22 rfl (by omega) (Nat.le_of_ble_eq_true rfl) ?_
      refine r_iconst (-1) dX5_swaps_23 (by decide) ?_
      refine r_icmp_ne 31 dX5_swaps_24 (by decide) (fun c_ => absurd (g) c_) (fun _ => ?_)
      refine r_iconst 1 dX5_swaps_27 (by decide) ?_
      refine r_goto 32 dX5_swaps_28 (by decide) ?_
      refine r_zastN dX5_swaps_32 rfl (by omega) (Nat.le_of_ble_eq_true rfl) ?_
      rw [v1]
      refine r_aload_n dX5_swaps_33 rfl ?_
      refine r_get bX5 31 (by decide) q1554 dX5_swaps_34 rfl rfl ?_
      refine r_iload_n dX5_swaps_37 rfl ?_
      refine r_iconst (-1) dX5_swaps_38 (by decide) ?_
      refine r_iastN dX5_swaps_39 rfl (by omega) (Nat.le_of_ble_eq_true rfl) ?_
      refine r_aload_n dX5_swaps_40 rfl ?_
      refine r_get bX5 30 (by decide) q1553 dX5_swaps_41 rfl rfl ?_
      refine r_iload_n dX5_swaps_44 rfl ?_
      refine r_zaldN dX5_swaps_45 rfl (by omega) (Nat.le_of_ble_eq_true rfl) ?_
      rw [pk_us]
      refine r_if_ne 52 dX5_swaps_46 (by decide) (fun _ => ?_) (fun c_ => absurd c_ (by decide))
      refine r_iincV dX5_swaps_52 rfl (Nat.le_of_ble_eq_true rfl) (incN _) ?_
      refine r_goto 4 dX5_swaps_55 (by decide) ?_
      exact ih
    · have eo : oF sh k = 0 := by simp [oF, g]
      simp only [cntI, eo] at ih
      refine r_iload_n dX5_swaps_4 rfl ?_
      refine r_aload_n dX5_swaps_5 rfl ?_
      refine r_get bX5 1 (by decide) q1524 dX5_swaps_6 rfl rfl ?_
      refine r_icmp_ge 58 dX5_swaps_9 (by decide) (fun c_ => absurd c_ (geF hk (by omega))) (fun _ => ?_)
      refine r_aload_n dX5_swaps_12 rfl ?_
      refine r_get bX5 30 (by decide) q1553 dX5_swaps_13 rfl rfl ?_
      refine r_iload_n dX5_swaps_16 rfl ?_
      refine r_aload_n dX5_swaps_17 rfl ?_
      refine r_get bX5 7 (by decide) q1530 dX5_swaps_18 rfl rfl ?_
      refine r_iload_n dX5_swaps_21 rfl ?_
      refine r_ialdN dX5_swaps_22 rfl (by omega) (Nat.le_of_ble_eq_true rfl) ?_
      refine r_iconst (-1) dX5_swaps_23 (by decide) ?_
      refine r_icmp_ne 31 dX5_swaps_24 (by decide) (fun _ => ?_) (fun c_ => absurd c_ (g))
      refine r_iconst 0 dX5_swaps_31 (by decide) ?_
      refine r_zastN dX5_swaps_32 rfl (by omega) (Nat.le_of_ble_eq_true rfl) ?_
      rw [v0]
      refine r_aload_n dX5_swaps_33 rfl ?_
      refine r_get bX5 31 (by decide) q1554 dX5_swaps_34 rfl rfl ?_
      refine r_iload_n dX5_swaps_37 rfl ?_
      refine r_iconst (-1) dX5_swaps_38 (by decide) ?_
      refine r_iastN dX5_swaps_39 rfl (by omega) (Nat.le_of_ble_eq_true rfl) ?_
      refine r_aload_n dX5_swaps_40 rfl ?_
      refine r_get bX5 30 (by decide) q1553 dX5_swaps_41 rfl rfl ?_
      refine r_iload_n dX5_swaps_44 rfl ?_
      refine r_zaldN dX5_swaps_45 rfl (by omega) (Nat.le_of_ble_eq_true rfl) ?_
      rw [pk_us]
      refine r_if_ne 52 dX5_swaps_46 (by decide) (fun c_ => absurd (rfl) c_) (fun _ => ?_)
      refine r_iincV dX5_swaps_49 rfl (Nat.le_of_ble_eq_true rfl) (incN _) ?_
      refine r_iincV dX5_swaps_52 rfl (Nat.le_of_ble_eq_true rfl) (incN _) ?_
      refine r_goto 4 dX5_swaps_55 (by decide) ?_
      exact ih
end MM
