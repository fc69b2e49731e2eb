set_option maxRecDepth 100000
/-! evenings that come: what is taken was there -/
theorem sh_tab : (List.range 12).all (fun p => (List.range 12).all (fun q => decide (p ≠ q → ((1 : Int32) <<< (nI p &&& 31)) >>> (nI q &&& 31) &&& 1 = 0))) = true := by decide +kernel
theorem or_sar (a b c : Int32) : (a ||| b) >>> c = (a >>> c) ||| (b >>> c) := by
  apply Int32.toBitVec_inj.mp
  simp [Int32.toBitVec_shiftRight, BitVec.sshiftRight_or_distrib]
theorem and_or1 (a b : Int32) : (a ||| b) &&& 1 = (a &&& 1) ||| (b &&& 1) := by
  apply Int32.toBitVec_inj.mp
  simp [BitVec.and_or_distrib_right]
theorem has_or {t : Int32} {p q : Nat} (hp : p < 12) (hq : q < 12) (hne : p ≠ q) : hasB (t ||| (1 <<< (nI p &&& 31))) (nI q) = hasB t (nI q) := by
  have h := sh_tab
  simp only [List.all_eq_true, List.mem_range, decide_eq_true_eq] at h
  have h2 := h p hp q hq hne
  unfold hasB
  rw [or_sar, and_or1, h2, or0]
/-- a place where there is something, or none -/
def Tk (p : Int32) (P : Nat → Int32) : Prop := p = -1 ∨ ∃ q, q < 12 ∧ p = nI q ∧ P q ≠ -1
theorem fw_Tk {P : Nat → Int32} {s : Int32} (h : s ≠ -1) : Tk (fwF P s) P := by
  rcases fstI_cases (fun p => P p == s) 12 with ⟨e, -⟩ | ⟨q, hq, hc, e, -⟩
  · exact Or.inl e
  · exact Or.inr ⟨q, hq, e, fun z => h (by rw [← z]; exact (beq_iff_eq.mp hc).symm)⟩
theorem like_ne {a lk s : Int32} (h : likeB a lk s = true) : s ≠ -1 := by
  intro z
  subst z
  simp [likeB] at h
theorem lo_Tk {a lk : Int32} {P : Nat → Int32} (h : a ≠ -1) : Tk (loF a lk P) P := by
  unfold loF
  split
  · rcases fstI_cases (fun q => likeB a lk (P q)) 12 with ⟨e, -⟩ | ⟨q, hq, hc, e, -⟩
    · exact Or.inl e
    · exact Or.inr ⟨q, hq, e, like_ne hc⟩
  · exact fw_Tk h
theorem la_Tk {a lk : Int32} {P : Nat → Int32} : Tk (laF a lk P) P := by
  rcases lstI_cases (fun q => likeB a lk (P q)) 12 with ⟨e, -⟩ | ⟨q, hq, hc, e, -⟩
  · exact Or.inl e
  · exact Or.inr ⟨q, hq, e, like_ne hc⟩
theorem sh_Tk {a lk : Int32} {P : Nat → Int32} : ∀ n, n ≤ 8 → Tk (shI a lk P n).2 P
  | 0, _ => Or.inl rfl
  | n + 1, h => by
    simp only [shI]
    split
    · exact fw_Tk (nI_m1 (by omega))
    · exact sh_Tk n (by omega)
/-- what an evening keeps true: panes only empty, what was taken was there, the first is a place -/
def EvI (th : Nat → Int32) (E : EV) : Prop := (∀ q, q < 12 → E.1 q = th q ∨ E.1 q = -1) ∧ (∀ q, q < 12 → hasB E.2.1 (nI q) = true → th q ≠ -1) ∧ (E.2.1 ≠ 0 → ∃ q, q < 12 ∧ E.2.2 = nI q)
theorem tk_EvI {th : Nat → Int32} {p : Int32} {E : EV} (hp : Tk p E.1) (h : EvI th E) : EvI th (tkF p E) := by
  rcases hp with rfl | ⟨q, hq, rfl, hne⟩
  · exact h
  · obtain ⟨h1, h2, h3⟩ := h
    have e : tkF (nI q) E = (upd E.1 q (-1), E.2.1 ||| (1 <<< (nI q &&& 31)), if E.2.1 = 0 then nI q else E.2.2) := by
      unfold tkF
      rw [if_neg (nI_m1 (by omega)), nI_clamp (by omega)]
    rw [e]
    refine ⟨fun j hj => ?_, fun j hj hb => ?_, fun _ => ?_⟩
    · show upd E.1 q (-1) j = th j ∨ upd E.1 q (-1) j = -1
      by_cases g : j = q
      · rw [g, pk_us]; exact Or.inr rfl
      · rw [pk_un g]; exact h1 j hj
    · by_cases g : j = q
      · subst g
        rcases h1 j hj with z | z
        · rw [← z]; exact hne
        · exact absurd z hne
      · exact h2 j hj (by rw [← has_or (t := E.2.1) hq hj (Ne.symm g)]; exact hb)
    · show ∃ z, z < 12 ∧ (if E.2.1 = 0 then nI q else E.2.2) = nI z
      by_cases g : E.2.1 = 0
      · rw [if_pos g]; exact ⟨q, hq, rfl⟩
      · rw [if_neg g]; exact h3 g
theorem gr_EvI {th : Nat → Int32} {a : Int32} (ha : a ≠ -1) : ∀ n E, EvI th E → EvI th (grF a n E)
  | 0, E, h => h
  | n + 1, E, h => by
    simp only [grF]
    split
    · exact h
    · exact gr_EvI ha n _ (tk_EvI (fw_Tk ha) h)
theorem go_EvI {th : Nat → Int32} {a lk : Int32} {k : Nat} {E : EV} (ha : a ≠ -1) (h : EvI th E) : EvI th (goF k a lk E) := by
  unfold goF
  split
  · exact tk_EvI la_Tk h
  · split
    · exact tk_EvI (lo_Tk ha) (tk_EvI (lo_Tk ha) h)
    · exact gr_EvI ha 12 _ h
  · split
    · exact h
    · split
      · exact tk_EvI la_Tk h
      · exact h
  · exact tk_EvI (sh_Tk 8 (Nat.le_refl _)) h
  · exact tk_EvI (lo_Tk ha) (tk_EvI (lo_Tk ha) h)
  · exact tk_EvI (lo_Tk ha) h
/-- the same for all who look -/
def RsI (th : Nat → Int32) (S : RS) : Prop := ∀ l, EvI th (S.1, S.2.1 l, S.2.2 l)
theorem st_RsI {th : Nat → Int32} {kN : Nat → Nat} {ow lk : Nat → Int32} {l : Nat} {S : RS} (ho : ow l ≠ -1) (h : RsI th S) : RsI th (stR kN ow lk l S) := by
  intro j
  have g := go_EvI (k := kN l) (a := ow l) (lk := lk l) ho (h l)
  by_cases e : j = l
  · subst e
    show EvI th (_, upd S.2.1 j _ j, upd S.2.2 j _ j)
    rw [pk_us, pk_us]
    exact g
  · show EvI th (_, upd S.2.1 l _ j, upd S.2.2 l _ j)
    rw [pk_un e, pk_un e]
    exact ⟨g.1, (h j).2⟩
theorem run_RsI {th : Nat → Int32} {kN : Nat → Nat} {ow lk : Nat → Int32} : ∀ (L : List Nat) (S : RS), (∀ l, l ∈ L → ow l ≠ -1) → RsI th S → RsI th (runS kN ow lk L S)
  | [], S, _, h => h
  | l :: L, S, ho, h => run_RsI L _ (fun z hz => ho z (List.mem_cons_of_mem _ hz)) (st_RsI (ho l List.mem_cons_self) h)
theorem has_0 {q : Nat} (hq : q < 12) : hasB 0 (nI q) = false := by
  have h : (List.range 12).all (fun q => hasB 0 (nI q) == false) = true := by decide +kernel
  simp only [List.all_eq_true, List.mem_range, beq_iff_eq] at h
  exact h q hq
theorem ev_RsI {th : Nat → Int32} {kN : Nat → Nat} {ow lk ag : Nat → Int32} {n : Nat} {s : Int32} (ho : ∀ j, j < n → ow j ≠ -1) : RsI th (evR kN ow lk ag n th s) := by
  refine run_RsI _ _ (fun l hl => ho l (ordL_lt ag s n l hl)) ?_
  intro l
  refine ⟨fun q _ => Or.inl rfl, fun q hq z => ?_, fun z => absurd rfl z⟩
  have z2 : hasB 0 (nI q) = true := z
  rw [has_0 hq] at z2
  cases z2
/-- a window's panes -/
def ThI (th : Nat → Int32) : Prop := ∀ q, q < 12 → th q = -1 ∨ ∃ s, s < 8 ∧ th q = nI s
theorem ev_ThI {th : Nat → Int32} {kN : Nat → Nat} {ow lk ag : Nat → Int32} {n : Nat} {s : Int32} (ho : ∀ j, j < n → ow j ≠ -1) (h : ThI th) : ThI (evR kN ow lk ag n th s).1 := by
  intro q hq
  rcases (ev_RsI (kN := kN) (lk := lk) (ag := ag) (s := s) ho 0).1 q hq with e | e
  · have e2 : (evR kN ow lk ag n th s).1 q = th q := e
    rw [e2]; exact h q hq
  · exact Or.inl e
def mnF (a b : Int32) : Int32 := if b < a then b else a
theorem r_mmin {J : Jb} {ce sl pc : Nat} {lv : List (Option Value)} {st : List Value} {h : AHp} {index : Nat} {x y : Int32} (hq : Cond.methodLink J.1.1.cls index yJ15_min ∈ lw_all) (hd : decode J.1.2.1 pc = .ok (.invokestatic index, 3)) (hcat : (st.map fun v => v.category).sum ≤ 8) (hc : ce ≤ J.2.2.1) (hs : sl ≤ J.2.2.2.1) (kk : Rch J ce sl (pc + 3) lv (.int (mnF x y) :: st) h) : Rch J ce sl pc lv (.int y :: .int x :: st) h := by
  intro l G sg R p e s m args below meth c H locs ls hR C hl hH hS
  have hts := C.2.2.2.2.2.1
  refine va_mmin C.1 C.2.1 (by rw [C.2.2.2.1]; first | exact hl.1 | exact hl.1.symm) C.2.2.2.2.1 (hts _ hq) (hts _ q811) (hts _ q112) (hts _ q812) (Nat.le_trans (by omega) hR.1) ?_ (Nat.le_trans hc hR.2.2.1) (Nat.le_trans hs hR.2.2.2) hd (kk l G sg R p e s m args below meth c H locs ls hR C hl hH hS)
  have h2 := hR.2.1
  rw [cat_map]
  omega
/-- what one takes home -/
def hpF (th : Nat → Int32) (t : Int32) (l : Nat) (S : Int32 × (Nat → Int32)) : Nat → Int32 × (Nat → Int32)
  | 0 => S
  | p + 1 => if hasB t (nI p) = true then ((hpF th t l S p).1 + 1, upd (hpF th t l S p).2 (8 * l + (th p).toNatClampNeg) (mnF 99 ((hpF th t l S p).2 (8 * l + (th p).toNatClampNeg) + 1))) else hpF th t l S p
def haF (th tk hs : Nat → Int32) : Nat → Int32 × (Nat → Int32)
  | 0 => (0, hs)
  | l + 1 => hpF th (tk l) l (haF th tk hs l) 12
def siF (th tk fo sh : Nat → Int32) : Nat → Nat → Int32
  | 0 => sh
  | l + 1 => if tk l = 0 then siF th tk fo sh l else upd (siF th tk fo sh l) l (th (fo l).toNatClampNeg)
section MM
variable {th kd ow ag lk co sh hs tp hd rl : Nat → Int32} {ro : Nat → Int64} {rf ol ah tr od tk fo wi ou ge mo : Nat → Int32} {my ev se td fr to tn va im lo : Int32} {r : List AC × List AC × List AC} {Q : Option Value → AHp → Prop}
variable {n : Nat} {kN : Nat → Nat}
theorem pX5_goes {s : Int32} (hn : n ≤ 8) (hk : ∀ j, j < n → kd j = nI (kN j) ∧ kN j < 6) (ho : ∀ j, j < n → ow j ≠ -1) (hth : ThI th) (hQ : ∀ (tr tk fo od : Nat → Int32) (lo : Int32), Q (some (.int (haF th (evR kN ow lk ag n th s).2.1 hs n).1)) ((mC ((evR kN ow lk ag n th s).1) kd ow ag lk co (siF th (evR kN ow lk ag n th s).2.1 (evR kN ow lk ag n th s).2.2 sh n) ((haF th (evR kN ow lk ag n th s).2.1 hs n).2) tp hd rl ro rf ol ah tr od tk fo wi ou ge mo (nI n) (ev + 1) se td fr to tn va im lo), r)) : AMet mX5_goes 6 0 0 [.ref 0, .int s] ((mC th kd ow ag lk co sh hs tp hd rl ro rf ol ah tr od tk fo wi ou ge mo (nI n) ev se td fr to tn va im lo), r) Q := by
  refine AMet.ofRch rfl rfl (Nat.le_of_ble_eq_true rfl) ?_
  have hI : RsI th (evR kN ow lk ag n th s) := ev_RsI ho
  refine r_aload_n dX5_goes_0 rfl ?_
  refine r_iload_n dX5_goes_1 rfl ?_
  refine r_callV (as := [_]) okX5_runs bX5 rfl rfl q1679 dX5_goes_2 (Nat.le_of_ble_eq_true rfl) rfl (Nat.le_of_ble_eq_true rfl) (Nat.le_of_ble_eq_true rfl) (Nat.le_of_ble_eq_true rfl) (pX5_runs hn hk ho (fun od2 hod => ?_))
  refine r_iconst 0 dX5_goes_5 (by decide) ?_
  refine r_istore_n dX5_goes_6 (Nat.le_of_ble_eq_true rfl) ?_
  refine r_iconst 0 dX5_goes_7 (by decide) ?_
  refine r_istore_n dX5_goes_8 (Nat.le_of_ble_eq_true rfl) ?_
  refine loopUp (N := n) (P := fun l => ∀ x : Option Value, Rch (mX5_goes, 6, 0, 0, oQ Q) 0 0 9 [some (.ref 0), some (.int s), some (.int (haF th (evR kN ow lk ag n th s).2.1 hs l).1), some (.int (nI l)), x] [] ((mC th kd ow ag lk co (siF th (evR kN ow lk ag n th s).2.1 (evR kN ow lk ag n th s).2.2 sh l) ((haF th (evR kN ow lk ag n th s).2.1 hs l).2) tp hd rl ro rf ol ah ((evR kN ow lk ag n th s).1) (od2) ((evR kN ow lk ag n th s).2.1) ((evR kN ow lk ag n th s).2.2) wi ou ge mo (nI n) ev se td fr to tn va im (nI (ordL ag s n).length)), r)) ?_ ?_ none
  · intro x
    refine r_iload_n dX5_goes_9 rfl ?_
    refine r_aload_n dX5_goes_10 rfl ?_
    refine r_get bX5 1 (by decide) q1524 dX5_goes_11 rfl rfl ?_
    refine r_icmp_ge 126 dX5_goes_14 (by decide) (fun _ => ?_) (fun c_ => absurd (Int32.le_refl _) c_)
    refine r_iconst 0 dX5_goes_126 (by decide) ?_
    refine r_istore_n dX5_goes_127 (Nat.le_of_ble_eq_true rfl) ?_
    refine eqP (P := fun z => Rch (mX5_goes, 6, 0, 0, oQ Q) 0 0 128 [some (.ref 0), some (.int s), some (.int (haF th (evR kN ow lk ag n th s).2.1 hs n).1), some (.int (nI 0)), x] [] ((mC (z) kd ow ag lk co (siF th (evR kN ow lk ag n th s).2.1 (evR kN ow lk ag n th s).2.2 sh n) ((haF th (evR kN ow lk ag n th s).2.1 hs n).2) tp hd rl ro rf ol ah ((evR kN ow lk ag n th s).1) (od2) ((evR kN ow lk ag n th s).2.1) ((evR kN ow lk ag n th s).2.2) wi ou ge mo (nI n) ev se td fr to tn va im (nI (ordL ag s n).length)), r)) (fill_0 (evR kN ow lk ag n th s).1 th) ?_
    refine loopUp (N := 12) (P := fun k => Rch (mX5_goes, 6, 0, 0, oQ Q) 0 0 128 [some (.ref 0), some (.int s), some (.int (haF th (evR kN ow lk ag n th s).2.1 hs n).1), some (.int (nI k)), x] [] ((mC (fillF (evR kN ow lk ag n th s).1 th k) kd ow ag lk co (siF th (evR kN ow lk ag n th s).2.1 (evR kN ow lk ag n th s).2.2 sh n) ((haF th (evR kN ow lk ag n th s).2.1 hs n).2) tp hd rl ro rf ol ah ((evR kN ow lk ag n th s).1) (od2) ((evR kN ow lk ag n th s).2.1) ((evR kN ow lk ag n th s).2.2) wi ou ge mo (nI n) ev se td fr to tn va im (nI (ordL ag s n).length)), r)) ?_ ?_
    · refine r_iload_n dX5_goes_128 rfl ?_
      refine r_bipush 12 dX5_goes_129 (by decide) ?_
      refine r_icmp_ge 152 dX5_goes_131 (by decide) (fun _ => ?_) (fun c_ => absurd (geT 12) c_)
      refine r_norm (a := 8) (n := 12) (evR kN ow lk ag n th s).1 rfl (fun j hj => fill_in hj) ?_
      refine r_aload_n dX5_goes_152 rfl ?_
      refine r_dup dX5_goes_153 rfl ?_
      refine r_get bX5 9 (by decide) q1532 dX5_goes_154 rfl rfl ?_
      refine r_iconst 1 dX5_goes_157 (by decide) ?_
      refine r_iadd dX5_goes_158 ?_
      refine r_put bX5 9 (by decide) rfl q1532 dX5_goes_159 rfl rfl rfl (Nat.le_of_ble_eq_true rfl) ?_
      refine r_iload_n dX5_goes_162 rfl ?_
      exact r_iret dX5_goes_163 rfl (Nat.le_of_ble_eq_true rfl) (Nat.le_of_ble_eq_true rfl) (hQ _ _ _ _ _)
    · intro k hk2 ih
      refine r_iload_n dX5_goes_128 rfl ?_
      refine r_bipush 12 dX5_goes_129 (by decide) ?_
      refine r_icmp_ge 152 dX5_goes_131 (by decide) (fun c_ => absurd c_ (geF hk2 (by decide))) (fun _ => ?_)
      refine r_aload_n dX5_goes_134 rfl ?_
      refine r_get bX5 0 (by decide) q1523 dX5_goes_135 rfl rfl ?_
      refine r_iload_n dX5_goes_138 rfl ?_
      refine r_aload_n dX5_goes_139 rfl ?_
      refine r_get bX5 24 (by decide) q1547 dX5_goes_140 rfl rfl ?_
      refine r_iload_n dX5_goes_143 rfl ?_
      refine r_ialdN dX5_goes_144 rfl (by omega) (Nat.le_of_ble_eq_true rfl) ?_
      refine r_iastN dX5_goes_145 rfl (by omega) (Nat.le_of_ble_eq_true rfl) ?_
      refine r_iincV dX5_goes_146 rfl (Nat.le_of_ble_eq_true rfl) (incN _) ?_
      refine r_goto 128 dX5_goes_149 (by decide) ?_
      rw [← fill_up] at ih
      exact ih
  · intro l hl ih x
    have hIl := hI l
    refine r_iload_n dX5_goes_9 rfl ?_
    refine r_aload_n dX5_goes_10 rfl ?_
    refine r_get bX5 1 (by decide) q1524 dX5_goes_11 rfl rfl ?_
    refine r_icmp_ge 126 dX5_goes_14 (by decide) (fun c_ => absurd c_ (geF hl (by omega))) (fun _ => ?_)
    refine r_iconst 0 dX5_goes_17 (by decide) ?_
    refine r_istore dX5_goes_18 (Nat.le_of_ble_eq_true rfl) ?_
    refine loopUp (N := 12) (P := fun p => Rch (mX5_goes, 6, 0, 0, oQ Q) 0 0 20 [some (.ref 0), some (.int s), some (.int (hpF th ((evR kN ow lk ag n th s).2.1 l) l (haF th (evR kN ow lk ag n th s).2.1 hs l) p).1), some (.int (nI l)), some (.int (nI p))] [] ((mC th kd ow ag lk co (siF th (evR kN ow lk ag n th s).2.1 (evR kN ow lk ag n th s).2.2 sh l) ((hpF th ((evR kN ow lk ag n th s).2.1 l) l (haF th (evR kN ow lk ag n th s).2.1 hs l) p).2) tp hd rl ro rf ol ah ((evR kN ow lk ag n th s).1) (od2) ((evR kN ow lk ag n th s).2.1) ((evR kN ow lk ag n th s).2.2) wi ou ge mo (nI n) ev se td fr to tn va im (nI (ordL ag s n).length)), r)) ?_ ?_
    · by_cases g : (evR kN ow lk ag n th s).2.1 l = 0
      · refine r_iload dX5_goes_20 rfl ?_
        refine r_bipush 12 dX5_goes_22 (by decide) ?_
        refine r_icmp_ge 94 dX5_goes_24 (by decide) (fun _ => ?_) (fun c_ => absurd (geT 12) c_)
        refine r_aload_n dX5_goes_94 rfl ?_
        refine r_get bX5 27 (by decide) q1550 dX5_goes_95 rfl rfl ?_
        refine r_iload_n dX5_goes_98 rfl ?_
        refine r_ialdN dX5_goes_99 rfl (by omega) (Nat.le_of_ble_eq_true rfl) ?_
        refine r_if_eq 120 dX5_goes_100 (by decide) (fun _ => ?_) (fun c_ => absurd (g) c_)
        refine r_iincV dX5_goes_120 rfl (Nat.le_of_ble_eq_true rfl) (incN _) ?_
        refine r_goto 9 dX5_goes_123 (by decide) ?_
        rw [siF, if_pos g] at ih
        exact ih _
      · obtain ⟨q, hq, eq⟩ := hIl.2.2 g
        have eq2 : (evR kN ow lk ag n th s).2.2 l = nI q := eq
        refine r_iload dX5_goes_20 rfl ?_
        refine r_bipush 12 dX5_goes_22 (by decide) ?_
        refine r_icmp_ge 94 dX5_goes_24 (by decide) (fun _ => ?_) (fun c_ => absurd (geT 12) c_)
        refine r_aload_n dX5_goes_94 rfl ?_
        refine r_get bX5 27 (by decide) q1550 dX5_goes_95 rfl rfl ?_
        refine r_iload_n dX5_goes_98 rfl ?_
        refine r_ialdN dX5_goes_99 rfl (by omega) (Nat.le_of_ble_eq_true rfl) ?_
        refine r_if_eq 120 dX5_goes_100 (by decide) (fun c_ => absurd c_ (g)) (fun _ => ?_)
        refine r_aload_n dX5_goes_103 rfl ?_
        refine r_get bX5 7 (by decide) q1530 dX5_goes_104 rfl rfl ?_
        refine r_iload_n dX5_goes_107 rfl ?_
        refine r_aload_n dX5_goes_108 rfl ?_
        refine r_get bX5 0 (by decide) q1523 dX5_goes_109 rfl rfl ?_
        refine r_aload_n dX5_goes_112 rfl ?_
        refine r_get bX5 28 (by decide) q1551 dX5_goes_113 rfl rfl ?_
        refine r_iload_n dX5_goes_116 rfl ?_
        refine r_ialdN dX5_goes_117 rfl (by omega) (Nat.le_of_ble_eq_true rfl) ?_
        rw [eq2]
        refine r_ialdN dX5_goes_118 rfl (by omega) (Nat.le_of_ble_eq_true rfl) ?_
        refine r_iastN dX5_goes_119 rfl (by omega) (Nat.le_of_ble_eq_true rfl) ?_
        refine r_iincV dX5_goes_120 rfl (Nat.le_of_ble_eq_true rfl) (incN _) ?_
        refine r_goto 9 dX5_goes_123 (by decide) ?_
        rw [siF, if_neg g, eq2, nI_clamp (by omega)] at ih
        exact ih _
    · intro p hp ih2
      refine r_iload dX5_goes_20 rfl ?_
      refine r_bipush 12 dX5_goes_22 (by decide) ?_
      refine r_icmp_ge 94 dX5_goes_24 (by decide) (fun c_ => absurd c_ (geF hp (by decide))) (fun _ => ?_)
      refine r_aload_n dX5_goes_27 rfl ?_
      refine r_get bX5 27 (by decide) q1550 dX5_goes_28 rfl rfl ?_
      refine r_iload_n dX5_goes_31 rfl ?_
      refine r_ialdN dX5_goes_32 rfl (by omega) (Nat.le_of_ble_eq_true rfl) ?_
      refine r_iload dX5_goes_33 rfl ?_
      refine r_callS (as := [_, _]) okX5_in q1691 dX5_goes_35 (Nat.le_of_ble_eq_true rfl) rfl (Nat.le_of_ble_eq_true rfl) (Nat.le_of_ble_eq_true rfl) (Nat.le_of_ble_eq_true rfl) (pX5_in ?_)
      refine r_if_ne 44 dX5_goes_38 (by decide) (fun c_38 => ?_) (fun c_38 => ?_)
      · have g := b2i_n.mp c_38
        have g2 : th p ≠ -1 := hIl.2.1 p hp g
        obtain ⟨z, hz, ez⟩ : ∃ z, z < 8 ∧ th p = nI z := (hth p hp).resolve_left g2
        rw [hpF, if_pos g, ez, nI_clamp (by omega)] at ih2
        refine r_iinc dX5_goes_44 rfl (Nat.le_of_ble_eq_true rfl) ?_
        rw [inc1]
        refine r_aload_n dX5_goes_47 rfl ?_
        refine r_get bX5 8 (by decide) q1531 dX5_goes_48 rfl rfl ?_
        refine r_bipush 8 dX5_goes_51 (by decide) ?_
        refine r_iload_n dX5_goes_53 rfl ?_
        refine r_imul dX5_goes_54 ?_
        refine r_aload_n dX5_goes_55 rfl ?_
        refine r_get bX5 0 (by decide) q1523 dX5_goes_56 rfl rfl ?_
        refine r_iload dX5_goes_59 rfl ?_
        refine r_ialdN dX5_goes_61 rfl (by omega) (Nat.le_of_ble_eq_true rfl) ?_
        rw [ez, show (8 : Int32) * nI l = nI (8 * l) from pk_mul 8 l]
        refine r_iadd dX5_goes_62 ?_
        rw [nI_add]
        refine r_bipush 99 dX5_goes_63 (by decide) ?_
        refine r_aload_n dX5_goes_65 rfl ?_
        refine r_get bX5 8 (by decide) q1531 dX5_goes_66 rfl rfl ?_
        refine r_bipush 8 dX5_goes_69 (by decide) ?_
        refine r_iload_n dX5_goes_71 rfl ?_
        refine r_imul dX5_goes_72 ?_
        refine r_aload_n dX5_goes_73 rfl ?_
        refine r_get bX5 0 (by decide) q1523 dX5_goes_74 rfl rfl ?_
        refine r_iload dX5_goes_77 rfl ?_
        refine r_ialdN dX5_goes_79 rfl (by omega) (Nat.le_of_ble_eq_true rfl) ?_
        rw [ez, show (8 : Int32) * nI l = nI (8 * l) from pk_mul 8 l]
        refine r_iadd dX5_goes_80 ?_
        rw [nI_add]
        refine r_ialdN dX5_goes_81 rfl (by omega) (Nat.le_of_ble_eq_true rfl) ?_
        refine r_iconst 1 dX5_goes_82 (by decide) ?_
        refine r_iadd dX5_goes_83 ?_
        refine r_mmin q2015 dX5_goes_84 (Nat.le_of_ble_eq_true rfl) (Nat.le_of_ble_eq_true rfl) (Nat.le_of_ble_eq_true rfl) ?_
        refine r_iastN dX5_goes_87 rfl (by omega) (Nat.le_of_ble_eq_true rfl) ?_
        refine r_iincV dX5_goes_88 rfl (Nat.le_of_ble_eq_true rfl) (incN _) ?_
        refine r_goto 20 dX5_goes_91 (by decide) ?_
        exact ih2
      · refine r_goto 88 dX5_goes_41 (by decide) ?_
        have g := b2i_0.mp c_38
        rw [hpF, if_neg (by rw [g]; decide)] at ih2
        refine r_iincV dX5_goes_88 rfl (Nat.le_of_ble_eq_true rfl) (incN _) ?_
        refine r_goto 20 dX5_goes_91 (by decide) ?_
        exact ih2
end MM
