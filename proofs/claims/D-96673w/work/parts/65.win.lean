set_option maxRecDepth 100000
/-! the component: who looks next; plain words and Window's small methods -/
theorem and_sar (a b c : Int32) : (a &&& b) >>> c = (a >>> c) &&& (b >>> c) := by
  apply Int32.toBitVec_inj.mp
  simp [Int32.toBitVec_shiftRight, BitVec.sshiftRight_and_distrib]
theorem cl_tab : (List.range 12).all (fun p => (List.range 12).all (fun q => decide ((((1 : Int32) <<< (nI p &&& 31)) ^^^ -1) >>> (nI q &&& 31) &&& 1 = if p = q then 0 else 1))) = true := by decide +kernel
theorem has_clr {t : Int32} {p q : Nat} (hp : p < 12) (hq : q < 12) : hasB (t &&& ((1 <<< (nI p &&& 31)) ^^^ -1)) (nI q) = (hasB t (nI q) && p != q) := by
  have h := cl_tab
  simp only [List.all_eq_true, List.mem_range, decide_eq_true_eq] at h
  have h2 := h p hp q hq
  unfold hasB
  rw [and_sar, Int32.and_assoc, h2]
  by_cases e : p = q
  · rw [if_pos e, Int32.and_zero]
    simp [e]
  · rw [if_neg e]
    simp [e]
/-- the first of a row, or none -/
def hdO : List Nat → Int32
  | [] => -1
  | x :: _ => nI x
theorem ordL_congr {ag : Nat → Int32} {s t : Int32} : ∀ n, (∀ j, j < n → hasB s (nI j) = hasB t (nI j)) → ordL ag s n = ordL ag t n
  | 0, _ => rfl
  | n + 1, h => by
    simp only [ordL]
    rw [h n (by omega), ordL_congr n (fun j hj => h j (by omega))]
theorem ordL_tail {ag : Nat → Int32} {set : Int32} : ∀ (n x : Nat) (xs : List Nat), n ≤ 12 → ordL ag set n = x :: xs → ordL ag (set &&& ((1 <<< (nI x &&& 31)) ^^^ -1)) n = xs
  | 0, x, xs, _, h => by simp [ordL] at h
  | n + 1, x, xs, hn, h => by
    have hs : ordL ag (set &&& ((1 <<< (nI n &&& 31)) ^^^ -1)) n = ordL ag set n := ordL_congr n (fun j hj => by
      rw [has_clr (by omega) (by omega)]
      have : n ≠ j := by omega
      simp [this])
    have hself : hasB (set &&& ((1 <<< (nI n &&& 31)) ^^^ -1)) (nI n) = false := by
      rw [has_clr (by omega) (by omega)]
      simp
    simp only [ordL] at h ⊢
    by_cases hb : hasB set (nI n) = true
    · rw [if_pos hb] at h
      cases hL : ordL ag set n with
      | nil =>
        rw [hL] at h
        simp only [insO, List.cons.injEq] at h
        obtain ⟨rfl, rfl⟩ := h
        rw [if_neg (by rw [hself]; decide), hs, hL]
      | cons y ys =>
        rw [hL] at h
        simp only [insO] at h
        by_cases g : ag n < ag y
        · rw [if_pos g] at h
          simp only [List.cons.injEq] at h
          obtain ⟨rfl, rfl⟩ := h
          rw [if_neg (by rw [hself]; decide), hs, hL]
        · rw [if_neg g] at h
          simp only [List.cons.injEq] at h
          obtain ⟨rfl, rfl⟩ := h
          have hy : y < n := ordL_lt ag set n y (by rw [hL]; exact List.mem_cons_self)
          have e1 : hasB (set &&& ((1 <<< (nI y &&& 31)) ^^^ -1)) (nI n) = true := by
            rw [has_clr (by omega) (by omega), hb]
            have : y ≠ n := by omega
            simp [this]
          rw [if_pos e1, ordL_tail n y ys (by omega) hL]
    · rw [if_neg hb] at h
      have hx : x < n := ordL_lt ag set n x (by rw [h]; exact List.mem_cons_self)
      have e1 : hasB (set &&& ((1 <<< (nI x &&& 31)) ^^^ -1)) (nI n) = false := by
        rw [has_clr (by omega) (by omega)]
        simp [hb]
      rw [if_neg (by rw [e1]; decide), ordL_tail n x xs (by omega) h]
theorem insO_nodup {ag : Nat → Int32} {l : Nat} : ∀ L : List Nat, l ∉ L → L.Nodup → (insO ag l L).Nodup
  | [], _, _ => by simp [insO]
  | x :: xs, h, hn => by
    simp only [insO]
    split
    · exact List.nodup_cons.mpr ⟨h, hn⟩
    · have h1 := List.nodup_cons.mp hn
      refine List.nodup_cons.mpr ⟨fun z => ?_, insO_nodup xs (fun z => h (List.mem_cons_of_mem _ z)) h1.2⟩
      rcases (insO_mem ag l xs x).mp z with e | e
      · exact h (by rw [e]; exact List.mem_cons_self)
      · exact h1.1 e
theorem ordL_nodup (ag : Nat → Int32) (set : Int32) : ∀ n, (ordL ag set n).Nodup
  | 0 => List.nodup_nil
  | n + 1 => by
    simp only [ordL]
    split
    · exact insO_nodup _ (fun z => Nat.lt_irrefl _ (ordL_lt ag set n n z)) (ordL_nodup ag set n)
    · exact ordL_nodup ag set n
/-- bits of those of a row of whom c holds -/
def orB (c : Nat → Bool) : List Nat → Int32 → Int32
  | [], g => g
  | x :: xs, g => orB c xs (if c x = true then g ||| (1 <<< (nI x &&& 31)) else g)
theorem orB_acc (c : Nat → Bool) : ∀ (L : List Nat) (g : Int32), orB c L g = g ||| orB c L 0
  | [], g => (or0 g).symm
  | x :: xs, g => by
    by_cases h : c x = true
    · simp only [orB, h, if_true]
      rw [orB_acc c xs (g ||| _), orB_acc c xs ((0 : Int32) ||| _), Int32.zero_or, Int32.or_assoc]
    · have h' : c x = false := by simpa using h
      simp only [orB, h', Bool.false_eq_true, if_false]
      exact orB_acc c xs g
theorem orB_cons (c : Nat → Bool) (x : Nat) (xs : List Nat) : orB c (x :: xs) 0 = (if c x = true then (1 : Int32) <<< (nI x &&& 31) else 0) ||| orB c xs 0 := by
  by_cases h : c x = true
  · simp only [orB, h, if_true]
    rw [orB_acc c xs ((0 : Int32) ||| _), Int32.zero_or]
  · have h' : c x = false := by simpa using h
    simp only [orB, h', Bool.false_eq_true, if_false]
    rw [Int32.zero_or]
theorem orB_ins (c : Nat → Bool) (ag : Nat → Int32) (l : Nat) : ∀ L : List Nat, orB c (insO ag l L) 0 = orB c L 0 ||| (if c l = true then (1 : Int32) <<< (nI l &&& 31) else 0)
  | [] => by
    rw [show insO ag l [] = [l] from rfl, orB_cons, Int32.or_comm]
  | x :: xs => by
    simp only [insO]
    split
    · rw [orB_cons c l (x :: xs), Int32.or_comm]
    · rw [orB_cons c x (insO ag l xs), orB_ins c ag l xs, orB_cons c x xs, Int32.or_assoc]
theorem orB_ord (c : Nat → Bool) (ag : Nat → Int32) (set : Int32) : ∀ n, orB c (ordL ag set n) 0 = bitsI (fun l => hasB set (nI l) && c l) n
  | 0 => rfl
  | n + 1 => by
    have ih := orB_ord c ag set n
    by_cases h : hasB set (nI n) = true
    · simp only [ordL, bitsI, h, if_true, Bool.true_and]
      rw [orB_ins, ih]
    · have h' : hasB set (nI n) = false := by simpa using h
      simp only [ordL, bitsI, h', Bool.false_eq_true, if_false, Bool.false_and]
      rw [ih, or0]
theorem run_keep {kN : Nat → Nat} {ow lk : Nat → Int32} {x : Nat} : ∀ (L : List Nat) (S : RS), x ∉ L → (runS kN ow lk L S).2.1 x = S.2.1 x ∧ (runS kN ow lk L S).2.2 x = S.2.2 x
  | [], S, _ => ⟨rfl, rfl⟩
  | y :: L, S, h => by
    have ih := run_keep (kN := kN) (ow := ow) (lk := lk) L (stR kN ow lk y S) (fun z => h (List.mem_cons_of_mem _ z))
    have hne : x ≠ y := fun e => h (by rw [e]; exact List.mem_cons_self)
    refine ⟨ih.1.trans ?_, ih.2.trans ?_⟩
    · show upd S.2.1 y _ x = _
      rw [pk_un hne]
    · show upd S.2.2 y _ x = _
      rw [pk_un hne]
/-- the glad, as the evening finds them -/
def glR (P : Nat → Int32) (kN : Nat → Nat) (ow lk : Nat → Int32) : List Nat → RS → Int32 → Int32
  | [], _, g => g
  | x :: xs, S, g => glR P kN ow lk xs (stR kN ow lk x S) (if gladB P ((stR kN ow lk x S).2.1 x) (ow x) = true then g ||| (1 <<< (nI x &&& 31)) else g)
theorem gl_eq {P : Nat → Int32} {kN : Nat → Nat} {ow lk : Nat → Int32} : ∀ (L : List Nat) (S : RS) (g : Int32), L.Nodup → glR P kN ow lk L S g = orB (fun x => gladB P ((runS kN ow lk L S).2.1 x) (ow x)) L g
  | [], _, _, _ => rfl
  | x :: xs, S, g, hn => by
    have h1 := List.nodup_cons.mp hn
    have e1 : (runS kN ow lk (x :: xs) S).2.1 x = (stR kN ow lk x S).2.1 x := (run_keep xs (stR kN ow lk x S) h1.1).1
    simp only [glR, orB, e1]
    rw [gl_eq xs _ _ h1.2]
    rfl
theorem gl_ev {P : Nat → Int32} {kN : Nat → Nat} {ow lk ag : Nat → Int32} {n : Nat} {set : Int32} : glR P kN ow lk (ordL ag set n) (P, fun _ => 0, fun _ => -1) 0 = bitsI (fun l => hasB set (nI l) && gladB P ((evR kN ow lk ag n P set).2.1 l) (ow l)) n := by
  rw [gl_eq _ _ _ (ordL_nodup ag set n), orB_ord]
  rfl
def anyB (c : Nat → Bool) : Nat → Bool
  | 0 => false
  | k + 1 => anyB c k || c k
theorem any_f {c : Nat → Bool} : ∀ n, (∀ j, j < n → c j = false) → anyB c n = false
  | 0, _ => rfl
  | n + 1, h => by
    simp only [anyB]
    rw [any_f n (fun j hj => h j (by omega)), h n (by omega)]
    rfl
theorem any_t {c : Nat → Bool} {q : Nat} (hc : c q = true) : ∀ n, q < n → anyB c n = true
  | 0, h => by omega
  | n + 1, h => by
    simp only [anyB]
    by_cases e : q = n
    · subst e
      rw [hc, Bool.or_true]
    · rw [any_t hc n (by omega), Bool.true_or]
theorem any_fst (c : Nat → Bool) : anyB c 12 = (fstI c 12 != -1) := by
  rcases fstI_cases c 12 with ⟨e, h⟩ | ⟨q, hq, hc, e, -⟩
  · rw [any_f 12 h, e]
    rfl
  · have : ¬ nI q = -1 := nI_m1 (by omega)
    rw [any_t hc 12 hq, e]
    simp [this]
section WW
variable {h : AHp} {o ga gb gl : Nat} {wp wl wa wk wc ws wh wn we wz : Value} {n : Nat} {ag lk : Nat → Int32} {nl : Nat → Option Nat} {Q : Option Value → AHp → Prop}
theorem pX1_isLooker {v m : Int32} (ho : aGet h o = some (.inr (1, [wp, wl, wa, wk, wc, ws, wh, .int m, we, wz]))) (hQ : Q (some (.int (b2i (inB v 0 (m - 1))))) h) : AMet mX1_isLooker 2 0 0 [.ref o, .int v] h Q := by
  refine AMet.ofRch rfl rfl (Nat.le_of_ble_eq_true rfl) ?_
  refine r_iload_n dX1_isLooker_0 rfl ?_
  refine r_iconst 0 dX1_isLooker_1 (by decide) ?_
  refine r_aload_n dX1_isLooker_2 rfl ?_
  refine r_get bX1 7 (by decide) q177 dX1_isLooker_3 ho rfl ?_
  refine r_iconst 1 dX1_isLooker_6 (by decide) ?_
  refine r_isub dX1_isLooker_7 ?_
  refine r_callSN (host := "SeenInOrderOfAge") (as := [_, _, _]) okX0_isIn (List.mem_of_getElem? (i := 3) rfl) dX1_isLooker_8 (Nat.le_of_ble_eq_true rfl) rfl (Nat.le_of_ble_eq_true rfl) (Nat.le_of_ble_eq_true rfl) (Nat.le_of_ble_eq_true rfl) (pX0_isIn ?_)
  exact r_zret (ty := .boolean) dX1_isLooker_11 rfl (b2i_nar _) (Nat.le_of_ble_eq_true rfl) (Nat.le_of_ble_eq_true rfl) (hQ)
theorem pX1_everybody {m : Int32} (ho : aGet h o = some (.inr (1, [wp, wl, wa, wk, wc, ws, wh, .int m, we, wz]))) (hQ : Q (some (.int (1 <<< (m &&& 31) - 1))) h) : AMet mX1_everybody 1 0 0 [.ref o] h Q := by
  refine AMet.ofRch rfl rfl (Nat.le_of_ble_eq_true rfl) ?_
  refine r_iconst 1 dX1_everybody_0 (by decide) ?_
  refine r_aload_n dX1_everybody_1 rfl ?_
  refine r_get bX1 7 (by decide) q177 dX1_everybody_2 ho rfl ?_
  refine r_ishl dX1_everybody_5 ?_
  refine r_iconst 1 dX1_everybody_6 (by decide) ?_
  refine r_isub dX1_everybody_7 ?_
  exact r_iret dX1_everybody_8 rfl (Nat.le_of_ble_eq_true rfl) (Nat.le_of_ble_eq_true rfl) (hQ)
theorem pX1_next {set : Int32} (hn : n ≤ 8) (ho : aGet h o = some (.inr (1, [wp, wl, .ref ga, wk, wc, ws, wh, .int (nI n), we, wz]))) (ha : aGet h ga = some (.inl (.int, 8, .inl ag))) (hQ : Q (some (.int (hdO (ordL ag set n)))) h) : AMet mX1_next 2 0 0 [.ref o, .int set] h Q := by
  refine AMet.ofRch rfl rfl (Nat.le_of_ble_eq_true rfl) ?_
  refine r_iconst (-1) dX1_next_0 (by decide) ?_
  refine r_istore_n dX1_next_1 (Nat.le_of_ble_eq_true rfl) ?_
  refine r_iconst 0 dX1_next_2 (by decide) ?_
  refine r_istore_n dX1_next_3 (Nat.le_of_ble_eq_true rfl) ?_
  refine loopUp (N := n) (P := fun k => Rch (mX1_next, 2, 0, 0, oQ Q) 0 0 4 [some (.ref o), some (.int set), some (.int (hdO (ordL ag set k))), some (.int (nI k))] [] h) ?_ ?_
  · refine r_iload_n dX1_next_4 rfl ?_
    refine r_aload_n dX1_next_5 rfl ?_
    refine r_get bX1 7 (by decide) q177 dX1_next_6 ho rfl ?_
    refine r_icmp_ge 52 dX1_next_9 (by decide) (fun _ => ?_) (fun c_ => absurd (Int32.le_refl _) c_)
    refine r_iload_n dX1_next_52 rfl ?_
    exact r_iret dX1_next_53 rfl (Nat.le_of_ble_eq_true rfl) (Nat.le_of_ble_eq_true rfl) (hQ)
  · intro k hk ih
    cases hL : ordL ag set k with
    | nil =>
      refine r_iload_n dX1_next_4 rfl ?_
      refine r_aload_n dX1_next_5 rfl ?_
      refine r_get bX1 7 (by decide) q177 dX1_next_6 ho rfl ?_
      refine r_icmp_ge 52 dX1_next_9 (by decide) (fun c_ => absurd c_ (geF hk (by omega))) (fun _ => ?_)
      refine r_iload_n dX1_next_12 rfl ?_
      refine r_iload_n dX1_next_13 rfl ?_
      refine r_callSN (host := "SeenInOrderOfAge") (as := [_, _]) okX0_has (List.mem_of_getElem? (i := 4) rfl) dX1_next_14 (Nat.le_of_ble_eq_true rfl) rfl (Nat.le_of_ble_eq_true rfl) (Nat.le_of_ble_eq_true rfl) (Nat.le_of_ble_eq_true rfl) (pX0_has ?_)
      refine r_if_eq 44 dX1_next_17 (by decide) (fun c_17 => ?_) (fun c_17 => ?_)
      · refine r_iload_n dX1_next_44 rfl ?_
        refine r_istore_n dX1_next_45 (Nat.le_of_ble_eq_true rfl) ?_
        refine r_iincV dX1_next_46 rfl (Nat.le_of_ble_eq_true rfl) (incN _) ?_
        refine r_goto 4 dX1_next_49 (by decide) ?_
        first | (have q1 := b2i_0.mp c_17; simp only [ordL, q1, hL, Bool.false_eq_true, if_false] at ih; exact ih) | (have q1 := b2i_n.mp c_17; simp only [ordL, q1, hL, if_true, insO] at ih; exact ih)
      · refine r_iload_n dX1_next_20 rfl ?_
        refine r_iconst (-1) dX1_next_21 (by decide) ?_
        refine r_icmp_eq 40 dX1_next_22 (by decide) (fun _ => ?_) (fun c_ => absurd (rfl) c_)
        refine r_iload_n dX1_next_40 rfl ?_
        refine r_goto 45 dX1_next_41 (by decide) ?_
        refine r_istore_n dX1_next_45 (Nat.le_of_ble_eq_true rfl) ?_
        refine r_iincV dX1_next_46 rfl (Nat.le_of_ble_eq_true rfl) (incN _) ?_
        refine r_goto 4 dX1_next_49 (by decide) ?_
        first | (have q1 := b2i_0.mp c_17; simp only [ordL, q1, hL, Bool.false_eq_true, if_false] at ih; exact ih) | (have q1 := b2i_n.mp c_17; simp only [ordL, q1, hL, if_true, insO] at ih; exact ih)
    | cons y ys =>
      have hy : y < k := ordL_lt ag set k y (by rw [hL]; exact List.mem_cons_self)
      refine r_iload_n dX1_next_4 rfl ?_
      refine r_aload_n dX1_next_5 rfl ?_
      refine r_get bX1 7 (by decide) q177 dX1_next_6 ho rfl ?_
      refine r_icmp_ge 52 dX1_next_9 (by decide) (fun c_ => absurd c_ (geF hk (by omega))) (fun _ => ?_)
      refine r_iload_n dX1_next_12 rfl ?_
      refine r_iload_n dX1_next_13 rfl ?_
      refine r_callSN (host := "SeenInOrderOfAge") (as := [_, _]) okX0_has (List.mem_of_getElem? (i := 4) rfl) dX1_next_14 (Nat.le_of_ble_eq_true rfl) rfl (Nat.le_of_ble_eq_true rfl) (Nat.le_of_ble_eq_true rfl) (Nat.le_of_ble_eq_true rfl) (pX0_has ?_)
      refine r_if_eq 44 dX1_next_17 (by decide) (fun c_17 => ?_) (fun c_17 => ?_)
      · refine r_iload_n dX1_next_44 rfl ?_
        refine r_istore_n dX1_next_45 (Nat.le_of_ble_eq_true rfl) ?_
        refine r_iincV dX1_next_46 rfl (Nat.le_of_ble_eq_true rfl) (incN _) ?_
        refine r_goto 4 dX1_next_49 (by decide) ?_
        first | (have q1 := b2i_0.mp c_17; simp only [ordL, q1, hL, Bool.false_eq_true, if_false] at ih; exact ih) | (have q1 := b2i_n.mp c_17; simp only [ordL, q1, hL, if_true, insO] at ih; first | (rw [if_neg (Int32.not_lt.mpr c_37)] at ih; exact ih) | (rw [if_pos (Int32.not_le.mp c_37)] at ih; exact ih))
      · refine r_iload_n dX1_next_20 rfl ?_
        refine r_iconst (-1) dX1_next_21 (by decide) ?_
        refine r_icmp_eq 40 dX1_next_22 (by decide) (fun c_ => absurd c_ (nI_m1 (by omega))) (fun _ => ?_)
        refine r_aload_n dX1_next_25 rfl ?_
        refine r_get bX1 2 (by decide) q164 dX1_next_26 ho rfl ?_
        refine r_iload_n dX1_next_29 rfl ?_
        refine r_ialdN dX1_next_30 ha (by omega) (Nat.le_of_ble_eq_true rfl) ?_
        refine r_aload_n dX1_next_31 rfl ?_
        refine r_get bX1 2 (by decide) q164 dX1_next_32 ho rfl ?_
        refine r_iload_n dX1_next_35 rfl ?_
        show Rch _ _ _ _ _ (.int (nI y) :: _) _
        refine r_ialdN dX1_next_36 ha (by omega) (Nat.le_of_ble_eq_true rfl) ?_
        refine r_icmp_ge 44 dX1_next_37 (by decide) (fun c_37 => ?_) (fun c_37 => ?_)
        · refine r_iload_n dX1_next_44 rfl ?_
          refine r_istore_n dX1_next_45 (Nat.le_of_ble_eq_true rfl) ?_
          refine r_iincV dX1_next_46 rfl (Nat.le_of_ble_eq_true rfl) (incN _) ?_
          refine r_goto 4 dX1_next_49 (by decide) ?_
          first | (have q1 := b2i_0.mp c_17; simp only [ordL, q1, hL, Bool.false_eq_true, if_false] at ih; exact ih) | (have q1 := b2i_n.mp c_17; simp only [ordL, q1, hL, if_true, insO] at ih; first | (rw [if_neg (Int32.not_lt.mpr c_37)] at ih; exact ih) | (rw [if_pos (Int32.not_le.mp c_37)] at ih; exact ih))
        · refine r_iload_n dX1_next_40 rfl ?_
          refine r_goto 45 dX1_next_41 (by decide) ?_
          refine r_istore_n dX1_next_45 (Nat.le_of_ble_eq_true rfl) ?_
          refine r_iincV dX1_next_46 rfl (Nat.le_of_ble_eq_true rfl) (incN _) ?_
          refine r_goto 4 dX1_next_49 (by decide) ?_
          first | (have q1 := b2i_0.mp c_17; simp only [ordL, q1, hL, Bool.false_eq_true, if_false] at ih; exact ih) | (have q1 := b2i_n.mp c_17; simp only [ordL, q1, hL, if_true, insO] at ih; first | (rw [if_neg (Int32.not_lt.mpr c_37)] at ih; exact ih) | (rw [if_pos (Int32.not_le.mp c_37)] at ih; exact ih))
theorem pX1_liked {x a c : Nat} {nu : Int32} (hx : x < 8) (ho : aGet h o = some (.inr (1, [wp, .ref gl, wa, .ref gb, wc, ws, wh, wn, we, wz]))) (hb : aGet h gb = some (.inl (.int, 8, .inl lk))) (hl : aGet h gl = some (.inl (.object "SeenInOrderOfAge$Looker", 8, .inr (.inr (.inr (.inr nl)))))) (hnl : nl x = some a) (hc : c < 6) {w : Int32} (hla : aGet h a = some (.inr (7 + c, [.int nu, .int w]))) (hQ : Q (some (.int (lk x ||| (1 <<< (w &&& 31))))) h) : AMet mX1_liked 1 0 0 [.ref o, .int (nI x)] h Q := by
  refine AMet.ofRch rfl rfl (Nat.le_of_ble_eq_true rfl) ?_
  refine r_aload_n dX1_liked_0 rfl ?_
  refine r_get bX1 3 (by decide) q166 dX1_liked_1 ho rfl ?_
  refine r_iload_n dX1_liked_4 rfl ?_
  refine r_ialdN dX1_liked_5 hb (by omega) (Nat.le_of_ble_eq_true rfl) ?_
  refine r_iconst 1 dX1_liked_6 (by decide) ?_
  refine r_aload_n dX1_liked_7 rfl ?_
  refine r_get bX1 1 (by decide) q161 dX1_liked_8 ho rfl ?_
  refine r_iload_n dX1_liked_11 rfl ?_
  refine r_aald_looker dX1_liked_12 hl (by first | assumption | exact vp_in_nI (by omega) (by omega)) ?_
  rw [nI_clamp (by omega), hnl]
  refine r_lkA q679 dX1_liked_13 hc hla ?_
  refine r_ishl dX1_liked_16 ?_
  refine r_ior dX1_liked_17 ?_
  exact r_iret dX1_liked_18 rfl (Nat.le_of_ble_eq_true rfl) (Nat.le_of_ble_eq_true rfl) (hQ)
end WW
