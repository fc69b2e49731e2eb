set_option maxRecDepth 100000
/-! the reference: what follows from swaps -/
def SwV (sh : Nat → Int32) (n : Nat) (S : SW) : Prop := (∀ l, l < n → S.1 l = 0 → sh l ≠ -1) ∧ (∀ l, l < n → sh l ≠ -1 → S.1 l = 0 ∨ ∃ w, w < n ∧ sh w ≠ -1 ∧ S.2 l = sh w)
theorem sw0_V {sh ou ge : Nat → Int32} {n : Nat} : SwV sh n (sw0 sh ou ge n) := by
  constructor
  · intro l hl h e
    have h2 : fillF (oF sh) ou n l = 0 := h
    rw [fill_in hl] at h2
    simp only [oF, e, if_true] at h2
    exact absurd h2 (by decide)
  · intro l hl h
    left
    show fillF (oF sh) ou n l = 0
    rw [fill_in hl]
    simp [oF, h]
theorem swR_V {sh ow lk : Nat → Int32} {n : Nat} {S : SW} (hn : n ≤ 8) (h : SwV sh n S) : SwV sh n (swR sh ow lk n S) := by
  obtain ⟨h1, h2⟩ := h
  constructor
  · intro l hl e
    have e : geR (rgB sh S.1 ow lk n) (fun _ => 1) S.1 n l = 0 := e
    simp only [geR] at e
    by_cases g : rgB sh S.1 ow lk n l = true
    · rw [if_pos ⟨hl, g⟩] at e
      exact absurd e (by decide)
    · rw [if_neg (fun z => g z.2)] at e
      exact h1 l hl e
  · intro l hl e
    show geR (rgB sh S.1 ow lk n) (fun _ => 1) S.1 n l = 0 ∨ ∃ w, w < n ∧ sh w ≠ -1 ∧ geR (rgB sh S.1 ow lk n) (fun l => sh (wiN sh S.1 ow lk n l)) S.2 n l = sh w
    simp only [geR]
    by_cases g : rgB sh S.1 ow lk n l = true
    · right
      rw [if_pos ⟨hl, g⟩]
      unfold rgB at g
      simp only [Bool.and_eq_true, beq_iff_eq] at g
      have hw := (wiN_P (sh := sh) (ow := ow) (lk := lk) hn ⟨hl, g.1⟩).1
      exact ⟨_, hw.1, h1 _ hw.1 hw.2, rfl⟩
    · rw [if_neg (fun z => g z.2), if_neg (fun z => g z.2)]
      exact h2 l hl e
theorem swI_V {sh ow lk : Nat → Int32} {n : Nat} (hn : n ≤ 8) : ∀ q (S : SW), SwV sh n S → SwV sh n (swI sh ow lk n q S)
  | 0, _, h => h
  | q + 1, S, h => swI_V hn q (swR sh ow lk n S) (swR_V hn h)
theorem swI_0 {sh ow lk : Nat → Int32} {n : Nat} (hn : n ≤ 8) : ∀ q (S : SW), inC n S.1 ≤ q → inC n (swI sh ow lk n q S).1 = 0
  | 0, S, h => by
    show inC n S.1 = 0
    omega
  | q + 1, S, h => by
    refine swI_0 hn q (swR sh ow lk n S) ?_
    by_cases g : inC n S.1 = 0
    · rw [swR_id g]; omega
    · have := swR_less (sh := sh) (ow := ow) (lk := lk) (S := S) hn (by omega)
      omega
/-- whoever had one gets one that somebody had -/
theorem sw_gets {sh ow lk ou ge : Nat → Int32} {n l : Nat} (hn : n ≤ 8) (hl : l < n) (h : sh l ≠ -1) : ∃ w, w < n ∧ sh w ≠ -1 ∧ (swI sh ow lk n n (sw0 sh ou ge n)).2 l = sh w := by
  have hV := swI_V (ow := ow) (lk := lk) hn n (sw0 sh ou ge n) sw0_V
  have h0 := swI_0 (sh := sh) (ow := ow) (lk := lk) hn n (sw0 sh ou ge n) (cntI_le _ n)
  rcases hV.2 l hl h with e | e
  · have h2 := cntI_drop (c := fun l => (swI sh ow lk n n (sw0 sh ou ge n)).1 l == 0) (d := fun j => if j = l then false else (swI sh ow lk n n (sw0 sh ou ge n)).1 j == 0) (q := l) (by simp [e]) (by simp) (fun j hj => by simp [hj]) n hl
    have h0 : cntI (fun l => (swI sh ow lk n n (sw0 sh ou ge n)).1 l == 0) n = 0 := h0
    omega
  · exact e
def mxF (a b : Int32) : Int32 := if a < b then b else a
theorem r_mmax {J : Jb} {ce sl pc : Nat} {lv : List (Option Value)} {st : List Value} {h : AHp} {index : Nat} {x y : Int32} (hq : Cond.methodLink J.1.1.cls index yJ15_max ∈ lw_all) (hd : decode J.1.2.1 pc = .ok (.invokestatic index, 3)) (hcat : (st.map fun v => v.category).sum ≤ 8) (hc : ce ≤ J.2.2.1) (hs : sl ≤ J.2.2.2.1) (kk : Rch J ce sl (pc + 3) lv (.int (mxF x y) :: st) h) : Rch J ce sl pc lv (.int y :: .int x :: st) h := by
  intro l G sg R p e s m args below meth c H locs ls hR C hl hH hS
  have hts := C.2.2.2.2.2.1
  refine va_mmax C.1 C.2.1 (by rw [C.2.2.2.1]; first | exact hl.1 | exact hl.1.symm) C.2.2.2.2.1 (hts _ hq) (hts _ q793) (hts _ q112) (hts _ q794) (Nat.le_trans (by omega) hR.1) ?_ (Nat.le_trans hc hR.2.2.1) (Nat.le_trans hs hR.2.2.2) hd (kk l G sg R p e s m args below meth c H locs ls hR C hl hH hS)
  have h2 := hR.2.1
  rw [cat_map]
  omega
/-- what one swap does to what they have -/
def hwF (sh ge hs : Nat → Int32) : Nat → Nat → Int32
  | 0 => hs
  | l + 1 => if sh l = -1 then hwF sh ge hs l else
    upd (upd (hwF sh ge hs l) (8 * l + (sh l).toNatClampNeg) (mxF 0 (hwF sh ge hs l (8 * l + (sh l).toNatClampNeg) - 1))) (8 * l + (ge l).toNatClampNeg)
      (mnF 99 (upd (hwF sh ge hs l) (8 * l + (sh l).toNatClampNeg) (mxF 0 (hwF sh ge hs l (8 * l + (sh l).toNatClampNeg) - 1)) (8 * l + (ge l).toNatClampNeg) + 1))
section MM
variable {th kd ow ag lk co sh hs tp hd rl : Nat → Int32} {ro : Nat → Int64} {rf ol ah tr od tk fo wi ou ge mo : Nat → Int32} {my ev se td fr to tn va im lo : Int32} {r : List AC × List AC × List AC} {Q : Option Value → AHp → Prop}
variable {n : Nat} {kN : Nat → Nat}
theorem pX5_next_2 {l : Int32} (hn : n ≤ 8) (hbad : inB l 0 (nI n - 1) = false → Q (some (.int (-2))) ((mC th kd ow ag lk co sh hs tp hd rl ro (upd rf 2 (rf 2 + 1)) ol ah tr od tk fo wi ou ge mo (nI n) ev se td fr to tn va im lo), r)) (hok : ∀ j, j < n → l = nI j → ∀ wi' ou' ge' : Nat → Int32, Q (some (.int ((swI sh ow lk n n (sw0 sh ou ge n)).2 j))) ((mC th kd ow ag lk co sh hs tp hd rl ro rf ol ah tr od tk fo (wi') (ou') (ge') mo (nI n) ev se td fr to tn va im lo), r)) : AMet mX5_next_2 4 0 0 [.ref 0, .int l] ((mC th kd ow ag lk co sh hs tp hd rl ro rf ol ah tr od tk fo wi ou ge mo (nI n) ev se td fr to tn va im lo), r) Q := by
  refine AMet.ofRch rfl rfl (Nat.le_of_ble_eq_true rfl) ?_
  refine r_aload_n dX5_next_2_0 rfl ?_
  refine r_iload_n dX5_next_2_1 rfl ?_
  refine r_callV (as := [_]) okX5_isLooker bX5 rfl rfl q1668 dX5_next_2_2 (Nat.le_of_ble_eq_true rfl) rfl (Nat.le_of_ble_eq_true rfl) (Nat.le_of_ble_eq_true rfl) (Nat.le_of_ble_eq_true rfl) (pX5_isLooker ?_)
  refine r_if_ne 15 dX5_next_2_5 (by decide) (fun c_5 => ?_) (fun c_5 => ?_)
  · obtain ⟨j, hj, rfl⟩ := inB_m (b2i_n.mp c_5) (by omega)
    refine r_aload_n dX5_next_2_15 rfl ?_
    refine r_callV (as := []) okX5_swaps bX5 rfl rfl q1971 dX5_next_2_16 (Nat.le_of_ble_eq_true rfl) rfl (Nat.le_of_ble_eq_true rfl) (Nat.le_of_ble_eq_true rfl) (Nat.le_of_ble_eq_true rfl) (pX5_swaps hn (fun wi2 => ?_))
    refine r_aload_n dX5_next_2_19 rfl ?_
    refine r_get bX5 31 (by decide) q1554 dX5_next_2_20 rfl rfl ?_
    refine r_iload_n dX5_next_2_23 rfl ?_
    refine r_ialdN dX5_next_2_24 rfl (by omega) (Nat.le_of_ble_eq_true rfl) ?_
    exact r_iret dX5_next_2_25 rfl (Nat.le_of_ble_eq_true rfl) (Nat.le_of_ble_eq_true rfl) (hok j hj rfl _ _ _)
  · refine r_aload_n dX5_next_2_8 rfl ?_
    refine r_bipush (-2) dX5_next_2_9 (by decide) ?_
    refine r_callV (as := [_]) okX5_no bX5 rfl rfl q1633 dX5_next_2_11 (Nat.le_of_ble_eq_true rfl) rfl (Nat.le_of_ble_eq_true rfl) (Nat.le_of_ble_eq_true rfl) (Nat.le_of_ble_eq_true rfl) (pX5_no 2 (by decide) (by decide) ?_)
    exact r_iret dX5_next_2_14 rfl (Nat.le_of_ble_eq_true rfl) (Nat.le_of_ble_eq_true rfl) (hbad (b2i_0.mp c_5))
theorem pX5_others (hn : n ≤ 8) (hQ : ∀ wi' : Nat → Int32, Q (some (.int (nI (cntI (fun l => (swI sh ow lk n n (sw0 sh ou ge n)).2 l != sh l) n)))) ((mC th kd ow ag lk co sh hs tp hd rl ro rf ol ah tr od tk fo (wi') ((swI sh ow lk n n (sw0 sh ou ge n)).1) ((swI sh ow lk n n (sw0 sh ou ge n)).2) mo (nI n) ev se td fr to tn va im lo), r)) : AMet mX5_others 4 0 0 [.ref 0] ((mC th kd ow ag lk co sh hs tp hd rl ro rf ol ah tr od tk fo wi ou ge mo (nI n) ev se td fr to tn va im lo), r) Q := by
  refine AMet.ofRch rfl rfl (Nat.le_of_ble_eq_true rfl) ?_
  refine r_aload_n dX5_others_0 rfl ?_
  refine r_callV (as := []) okX5_swaps bX5 rfl rfl q1971 dX5_others_1 (Nat.le_of_ble_eq_true rfl) rfl (Nat.le_of_ble_eq_true rfl) (Nat.le_of_ble_eq_true rfl) (Nat.le_of_ble_eq_true rfl) (pX5_swaps hn (fun wi2 => ?_))
  refine r_iconst 0 dX5_others_4 (by decide) ?_
  refine r_istore_n dX5_others_5 (Nat.le_of_ble_eq_true rfl) ?_
  refine r_iconst 0 dX5_others_6 (by decide) ?_
  refine r_istore_n dX5_others_7 (Nat.le_of_ble_eq_true rfl) ?_
  generalize swI sh ow lk n n (sw0 sh ou ge n) = F at hQ ⊢
  refine loopUp (N := n) (P := fun k => Rch (mX5_others, 4, 0, 0, oQ Q) 0 0 8 [some (.ref 0), some (.int (nI (cntI (fun l => F.2 l != sh l) k))), some (.int (nI k))] [] ((mC th kd ow ag lk co sh hs tp hd rl ro rf ol ah tr od tk fo (wi2) (F.1) (F.2) mo (nI n) ev se td fr to tn va im lo), r)) ?_ ?_
  · refine r_iload_n dX5_others_8 rfl ?_
    refine r_aload_n dX5_others_9 rfl ?_
    refine r_get bX5 1 (by decide) q1524 dX5_others_10 rfl rfl ?_
    refine r_icmp_ge 40 dX5_others_13 (by decide) (fun _ => ?_) (fun c_ => absurd (Int32.le_refl _) c_)
    refine r_iload_n dX5_others_40 rfl ?_
    exact r_iret dX5_others_41 rfl (Nat.le_of_ble_eq_true rfl) (Nat.le_of_ble_eq_true rfl) (hQ _)
  · intro k hk ih
    refine r_iload_n dX5_others_8 rfl ?_
    refine r_aload_n dX5_others_9 rfl ?_
    refine r_get bX5 1 (by decide) q1524 dX5_others_10 rfl rfl ?_
    refine r_icmp_ge 40 dX5_others_13 (by decide) (fun c_ => absurd c_ (geF hk (by omega))) (fun _ => ?_)
    refine r_aload_n dX5_others_16 rfl ?_
    refine r_get bX5 31 (by decide) q1554 dX5_others_17 rfl rfl ?_
    refine r_iload_n dX5_others_20 rfl ?_
    refine r_ialdN dX5_others_21 rfl (by omega) (Nat.le_of_ble_eq_true rfl) ?_
    refine r_aload_n dX5_others_22 rfl ?_
    refine r_get bX5 7 (by decide) q1530 dX5_others_23 rfl rfl ?_
    refine r_iload_n dX5_others_26 rfl ?_
    refine r_ialdN dX5_others_27 rfl (by omega) (Nat.le_of_ble_eq_true rfl) ?_
    refine r_icmp_eq 34 dX5_others_28 (by decide) (fun c_28 => ?_) (fun c_28 => ?_)
    · refine r_iincV dX5_others_34 rfl (Nat.le_of_ble_eq_true rfl) (incN _) ?_
      refine r_goto 8 dX5_others_37 (by decide) ?_
      first | (have q1 : (F.2 k != sh k) = true := (by simpa using c_28); simp only [cntI, q1, if_true] at ih; exact ih) | (have q1 : (F.2 k != sh k) = false := (by simpa using c_28); simp only [cntI, q1, Bool.false_eq_true, if_false, Nat.add_zero] at ih; exact ih)
    · refine r_iincV dX5_others_31 rfl (Nat.le_of_ble_eq_true rfl) (incN _) ?_
      refine r_iincV dX5_others_34 rfl (Nat.le_of_ble_eq_true rfl) (incN _) ?_
      refine r_goto 8 dX5_others_37 (by decide) ?_
      first | (have q1 : (F.2 k != sh k) = true := (by simpa using c_28); simp only [cntI, q1, if_true] at ih; exact ih) | (have q1 : (F.2 k != sh k) = false := (by simpa using c_28); simp only [cntI, q1, Bool.false_eq_true, if_false, Nat.add_zero] at ih; exact ih)
theorem pX5_swapped (hn : n ≤ 8) (hQ : ∀ wi' ou' ge' : Nat → Int32, Q (some (.int (nI (cntI (fun l => (swI sh ow lk n n (sw0 sh ou ge n)).2 l != sh l) n)))) ((mC th kd ow ag lk co sh hs tp hd rl ro rf ol ah tr od tk fo (wi') (ou') (ge') mo (nI n) ev se td fr to tn va im lo), r)) : AMet mX5_swapped 5 0 0 [.ref 0] ((mC th kd ow ag lk co sh hs tp hd rl ro rf ol ah tr od tk fo wi ou ge mo (nI n) ev se td fr to tn va im lo), r) Q := by
  refine AMet.ofRch rfl rfl (Nat.le_of_ble_eq_true rfl) ?_
  refine r_aload_n dX5_swapped_0 rfl ?_
  refine r_callV (as := []) okX5_others bX5 rfl rfl q1991 dX5_swapped_1 (Nat.le_of_ble_eq_true rfl) rfl (Nat.le_of_ble_eq_true rfl) (Nat.le_of_ble_eq_true rfl) (Nat.le_of_ble_eq_true rfl) (pX5_others hn (fun wi2 => ?_))
  exact r_iret dX5_swapped_4 rfl (Nat.le_of_ble_eq_true rfl) (Nat.le_of_ble_eq_true rfl) (hQ _ _ _)
theorem pX5_swap (hn : n ≤ 8) (hsh : ∀ l, l < n → sh l = -1 ∨ ∃ s, s < 8 ∧ sh l = nI s) (hQ : ∀ wi' ou' ge' : Nat → Int32, Q (some (.int (nI (cntI (fun l => (swI sh ow lk n n (sw0 sh ou ge n)).2 l != sh l) n)))) ((mC th kd ow ag lk co (geR (fun l => sh l != -1) (swI sh ow lk n n (sw0 sh ou ge n)).2 sh n) (hwF sh (swI sh ow lk n n (sw0 sh ou ge n)).2 hs n) tp hd rl ro rf ol ah tr od tk fo (wi') (ou') (ge') mo (nI n) ev se td fr to tn va im lo), r)) : AMet mX5_swap 5 0 0 [.ref 0] ((mC th kd ow ag lk co sh hs tp hd rl ro rf ol ah tr od tk fo wi ou ge mo (nI n) ev se td fr to tn va im lo), r) Q := by
  refine AMet.ofRch rfl rfl (Nat.le_of_ble_eq_true rfl) ?_
  have hG : ∀ l, l < n → sh l ≠ -1 → ∃ s, s < 8 ∧ (swI sh ow lk n n (sw0 sh ou ge n)).2 l = nI s := by
    intro l hl h
    obtain ⟨w, h1, h2, h3⟩ := sw_gets (ow := ow) (lk := lk) (ou := ou) (ge := ge) hn hl h
    rw [h3]
    exact (hsh w h1).resolve_left h2
  refine r_aload_n dX5_swap_0 rfl ?_
  refine r_callV (as := []) okX5_others bX5 rfl rfl q1991 dX5_swap_1 (Nat.le_of_ble_eq_true rfl) rfl (Nat.le_of_ble_eq_true rfl) (Nat.le_of_ble_eq_true rfl) (Nat.le_of_ble_eq_true rfl) (pX5_others hn (fun wi2 => ?_))
  refine r_istore_n dX5_swap_4 (Nat.le_of_ble_eq_true rfl) ?_
  refine r_iconst 0 dX5_swap_5 (by decide) ?_
  refine r_istore_n dX5_swap_6 (Nat.le_of_ble_eq_true rfl) ?_
  generalize swI sh ow lk n n (sw0 sh ou ge n) = F at hQ hG ⊢
  refine eqP (P := fun z => Rch (mX5_swap, 5, 0, 0, oQ Q) 0 0 7 [some (.ref 0), some (.int (nI (cntI (fun l => F.2 l != sh l) n))), some (.int (nI 0))] [] ((mC th kd ow ag lk co (z) hs tp hd rl ro rf ol ah tr od tk fo (wi2) (F.1) (F.2) mo (nI n) ev se td fr to tn va im lo), r)) (geR_0 (fun l => sh l != -1) F.2 sh) ?_
  refine loopUp (N := n) (P := fun k => Rch (mX5_swap, 5, 0, 0, oQ Q) 0 0 7 [some (.ref 0), some (.int (nI (cntI (fun l => F.2 l != sh l) n))), some (.int (nI k))] [] ((mC th kd ow ag lk co (geR (fun l => sh l != -1) F.2 sh k) (hwF sh F.2 hs k) tp hd rl ro rf ol ah tr od tk fo (wi2) (F.1) (F.2) mo (nI n) ev se td fr to tn va im lo), r)) ?_ ?_
  · refine r_iload_n dX5_swap_7 rfl ?_
    refine r_aload_n dX5_swap_8 rfl ?_
    refine r_get bX5 1 (by decide) q1524 dX5_swap_9 rfl rfl ?_
    refine r_icmp_ge 123 dX5_swap_12 (by decide) (fun _ => ?_) (fun c_ => absurd (Int32.le_refl _) c_)
    refine r_iload_n dX5_swap_123 rfl ?_
    exact r_iret dX5_swap_124 rfl (Nat.le_of_ble_eq_true rfl) (Nat.le_of_ble_eq_true rfl) (hQ _ _ _)
  · intro k hk ih
    have ek : geR (fun l => sh l != -1) F.2 sh k k = sh k := by simp [geR]
    by_cases g : sh k = -1
    · rw [geR_f (c := fun l => sh l != -1) (by simp [g]), hwF, if_pos g] at ih
      refine r_iload_n dX5_swap_7 rfl ?_
      refine r_aload_n dX5_swap_8 rfl ?_
      refine r_get bX5 1 (by decide) q1524 dX5_swap_9 rfl rfl ?_
      refine r_icmp_ge 123 dX5_swap_12 (by decide) (fun c_ => absurd c_ (geF hk (by omega))) (fun _ => ?_)
      refine r_aload_n dX5_swap_15 rfl ?_
      refine r_get bX5 7 (by decide) q1530 dX5_swap_16 rfl rfl ?_
      refine r_iload_n dX5_swap_19 rfl ?_
      refine r_ialdN dX5_swap_20 rfl (by omega) (Nat.le_of_ble_eq_true rfl) ?_
      refine r_iconst (-1) dX5_swap_21 (by decide) ?_
      refine r_icmp_ne 28 dX5_swap_22 (by decide) (fun c_ => absurd (ek.trans g) c_) (fun _ => ?_)
      refine r_goto 117 dX5_swap_25 (by decide) ?_
      refine r_iincV dX5_swap_117 rfl (Nat.le_of_ble_eq_true rfl) (incN _) ?_
      refine r_goto 7 dX5_swap_120 (by decide) ?_
      exact ih
    · obtain ⟨a, ha, ea⟩ := (hsh k hk).resolve_left g
      obtain ⟨b, hb, eb⟩ := hG k hk g
      rw [← geR_t (c := fun l => sh l != -1) (by simp [g]), hwF, if_neg g, ea, eb, nI_clamp (show a < 2 ^ 31 by omega), nI_clamp (show b < 2 ^ 31 by omega)] at ih
      have ek2 := ek.trans ea
      refine r_iload_n dX5_swap_7 rfl ?_
      refine r_aload_n dX5_swap_8 rfl ?_
      refine r_get bX5 1 (by decide) q1524 dX5_swap_9 rfl rfl ?_
      refine r_icmp_ge 123 dX5_swap_12 (by decide) (fun c_ => absurd c_ (geF hk (by omega))) (fun _ => ?_)
      refine r_aload_n dX5_swap_15 rfl ?_
      refine r_get bX5 7 (by decide) q1530 dX5_swap_16 rfl rfl ?_
      refine r_iload_n dX5_swap_19 rfl ?_
      refine r_ialdN dX5_swap_20 rfl (by omega) (Nat.le_of_ble_eq_true rfl) ?_
      refine r_iconst (-1) dX5_swap_21 (by decide) ?_
      refine r_icmp_ne 28 dX5_swap_22 (by decide) (fun _ => ?_) (fun c_ => absurd c_ (fun z => g (ek.symm.trans z)))
      refine r_aload_n dX5_swap_28 rfl ?_
      refine r_get bX5 8 (by decide) q1531 dX5_swap_29 rfl rfl ?_
      refine r_bipush 8 dX5_swap_32 (by decide) ?_
      refine r_iload_n dX5_swap_34 rfl ?_
      refine r_imul dX5_swap_35 ?_
      refine r_aload_n dX5_swap_36 rfl ?_
      refine r_get bX5 7 (by decide) q1530 dX5_swap_37 rfl rfl ?_
      refine r_iload_n dX5_swap_40 rfl ?_
      refine r_ialdN dX5_swap_41 rfl (by omega) (Nat.le_of_ble_eq_true rfl) ?_
      rw [ek2, show (8 : Int32) * nI k = nI (8 * k) from pk_mul 8 k]
      refine r_iadd dX5_swap_42 ?_
      rw [nI_add]
      refine r_iconst 0 dX5_swap_43 (by decide) ?_
      refine r_aload_n dX5_swap_44 rfl ?_
      refine r_get bX5 8 (by decide) q1531 dX5_swap_45 rfl rfl ?_
      refine r_bipush 8 dX5_swap_48 (by decide) ?_
      refine r_iload_n dX5_swap_50 rfl ?_
      refine r_imul dX5_swap_51 ?_
      refine r_aload_n dX5_swap_52 rfl ?_
      refine r_get bX5 7 (by decide) q1530 dX5_swap_53 rfl rfl ?_
      refine r_iload_n dX5_swap_56 rfl ?_
      refine r_ialdN dX5_swap_57 rfl (by omega) (Nat.le_of_ble_eq_true rfl) ?_
      rw [ek2, show (8 : Int32) * nI k = nI (8 * k) from pk_mul 8 k]
      refine r_iadd dX5_swap_58 ?_
      rw [nI_add]
      refine r_ialdN dX5_swap_59 rfl (by omega) (Nat.le_of_ble_eq_true rfl) ?_
      refine r_iconst 1 dX5_swap_60 (by decide) ?_
      refine r_isub dX5_swap_61 ?_
      refine r_mmax q2020 dX5_swap_62 (Nat.le_of_ble_eq_true rfl) (Nat.le_of_ble_eq_true rfl) (Nat.le_of_ble_eq_true rfl) ?_
      refine r_iastN dX5_swap_65 rfl (by omega) (Nat.le_of_ble_eq_true rfl) ?_
      refine r_aload_n dX5_swap_66 rfl ?_
      refine r_get bX5 7 (by decide) q1530 dX5_swap_67 rfl rfl ?_
      refine r_iload_n dX5_swap_70 rfl ?_
      refine r_aload_n dX5_swap_71 rfl ?_
      refine r_get bX5 31 (by decide) q1554 dX5_swap_72 rfl rfl ?_
      refine r_iload_n dX5_swap_75 rfl ?_
      refine r_ialdN dX5_swap_76 rfl (by omega) (Nat.le_of_ble_eq_true rfl) ?_
      rw [eb]
      refine r_iastN dX5_swap_77 rfl (by omega) (Nat.le_of_ble_eq_true rfl) ?_
      refine r_aload_n dX5_swap_78 rfl ?_
      refine r_get bX5 8 (by decide) q1531 dX5_swap_79 rfl rfl ?_
      refine r_bipush 8 dX5_swap_82 (by decide) ?_
      refine r_iload_n dX5_swap_84 rfl ?_
      refine r_imul dX5_swap_85 ?_
      refine r_aload_n dX5_swap_86 rfl ?_
      refine r_get bX5 7 (by decide) q1530 dX5_swap_87 rfl rfl ?_
      refine r_iload_n dX5_swap_90 rfl ?_
      refine r_ialdN dX5_swap_91 rfl (by omega) (Nat.le_of_ble_eq_true rfl) ?_
      rw [pk_us, show (8 : Int32) * nI k = nI (8 * k) from pk_mul 8 k]
      refine r_iadd dX5_swap_92 ?_
      rw [nI_add]
      refine r_bipush 99 dX5_swap_93 (by decide) ?_
      refine r_aload_n dX5_swap_95 rfl ?_
      refine r_get bX5 8 (by decide) q1531 dX5_swap_96 rfl rfl ?_
      refine r_bipush 8 dX5_swap_99 (by decide) ?_
      refine r_iload_n dX5_swap_101 rfl ?_
      refine r_imul dX5_swap_102 ?_
      refine r_aload_n dX5_swap_103 rfl ?_
      refine r_get bX5 7 (by decide) q1530 dX5_swap_104 rfl rfl ?_
      refine r_iload_n dX5_swap_107 rfl ?_
      refine r_ialdN dX5_swap_108 rfl (by omega) (Nat.le_of_ble_eq_true rfl) ?_
      rw [pk_us, show (8 : Int32) * nI k = nI (8 * k) from pk_mul 8 k]
      refine r_iadd dX5_swap_109 ?_
      rw [nI_add]
      refine r_ialdN dX5_swap_110 rfl (by omega) (Nat.le_of_ble_eq_true rfl) ?_
      refine r_iconst 1 dX5_swap_111 (by decide) ?_
      refine r_iadd dX5_swap_112 ?_
      refine r_mmin q2015 dX5_swap_113 (Nat.le_of_ble_eq_true rfl) (Nat.le_of_ble_eq_true rfl) (Nat.le_of_ble_eq_true rfl) ?_
      refine r_iastN dX5_swap_116 rfl (by omega) (Nat.le_of_ble_eq_true rfl) ?_
      refine r_iincV dX5_swap_117 rfl (Nat.le_of_ble_eq_true rfl) (incN _) ?_
      refine r_goto 7 dX5_swap_120 (by decide) ?_
      exact ih
end MM
