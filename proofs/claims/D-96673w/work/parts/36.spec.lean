set_option maxRecDepth 100000
/-! what is asked of evenings, in plain words -/
theorem r_ldcw {J : Jb} {ce sl pc : Nat} {lv : List (Option Value)} {st : List Value} {h : AHp} {i : Nat} {v : Int32} (hq : Cond.constant J.1.1.cls i v ∈ lw_all) (hd : decode J.1.2.1 pc = .ok (.ldc_w i, 3)) (k : Rch J ce sl (pc + 3) lv (.int v :: st) h) : Rch J ce sl pc lv st h :=
  fun l G sg R p e s m args below meth c H locs ls hR C hl hH hS => lv_ldcw C.1 C.2.1 C.2.2.2.2.1 (C.2.2.2.2.2.1 _ hq) hd (k l G sg R p e s m args below meth c H locs ls hR C hl hH hS)
def ush (x y : Int32) : Int32 := (x.toUInt32 >>> (y.toUInt32 &&& Int32.toUInt32 31)).toInt32
/-- Integer.bitCount as it is written -/
def bcF (x : Int32) : Int32 :=
  let a := x - (ush x 1 &&& 1431655765)
  let b := (a &&& 858993459) + (ush a 2 &&& 858993459)
  let c := (b + ush b 4) &&& 252645135
  let d := c + ush c 8
  let e := d + ush d 16
  e &&& 63
theorem pJ18_bitCount {h : AHp} {x : Int32} {Q : Option Value → AHp → Prop} (hQ : Q (some (.int (bcF x))) h) : AMet mJ18_bitCount 1 0 0 [.int x] h Q := by
  refine AMet.ofRch rfl rfl (Nat.le_of_ble_eq_true rfl) ?_
  refine r_iload_n dJ18_bitCount_0 rfl ?_
  refine r_iload_n dJ18_bitCount_1 rfl ?_
  refine r_iconst 1 dJ18_bitCount_2 (by decide) ?_
  refine r_iushr dJ18_bitCount_3 ?_
  refine r_ldcw q1250 dJ18_bitCount_4 ?_
  refine r_iand dJ18_bitCount_7 ?_
  refine r_isub dJ18_bitCount_8 ?_
  refine r_istore_n dJ18_bitCount_9 (Nat.le_of_ble_eq_true rfl) ?_
  refine r_iload_n dJ18_bitCount_10 rfl ?_
  refine r_ldcw q1251 dJ18_bitCount_11 ?_
  refine r_iand dJ18_bitCount_14 ?_
  refine r_iload_n dJ18_bitCount_15 rfl ?_
  refine r_iconst 2 dJ18_bitCount_16 (by decide) ?_
  refine r_iushr dJ18_bitCount_17 ?_
  refine r_ldcw q1251 dJ18_bitCount_18 ?_
  refine r_iand dJ18_bitCount_21 ?_
  refine r_iadd dJ18_bitCount_22 ?_
  refine r_istore_n dJ18_bitCount_23 (Nat.le_of_ble_eq_true rfl) ?_
  refine r_iload_n dJ18_bitCount_24 rfl ?_
  refine r_iload_n dJ18_bitCount_25 rfl ?_
  refine r_iconst 4 dJ18_bitCount_26 (by decide) ?_
  refine r_iushr dJ18_bitCount_27 ?_
  refine r_iadd dJ18_bitCount_28 ?_
  refine r_ldcw q1252 dJ18_bitCount_29 ?_
  refine r_iand dJ18_bitCount_32 ?_
  refine r_istore_n dJ18_bitCount_33 (Nat.le_of_ble_eq_true rfl) ?_
  refine r_iload_n dJ18_bitCount_34 rfl ?_
  refine r_iload_n dJ18_bitCount_35 rfl ?_
  refine r_bipush 8 dJ18_bitCount_36 (by decide) ?_
  refine r_iushr dJ18_bitCount_38 ?_
  refine r_iadd dJ18_bitCount_39 ?_
  refine r_istore_n dJ18_bitCount_40 (Nat.le_of_ble_eq_true rfl) ?_
  refine r_iload_n dJ18_bitCount_41 rfl ?_
  refine r_iload_n dJ18_bitCount_42 rfl ?_
  refine r_bipush 16 dJ18_bitCount_43 (by decide) ?_
  refine r_iushr dJ18_bitCount_45 ?_
  refine r_iadd dJ18_bitCount_46 ?_
  refine r_istore_n dJ18_bitCount_47 (Nat.le_of_ble_eq_true rfl) ?_
  refine r_iload_n dJ18_bitCount_48 rfl ?_
  refine r_bipush 63 dJ18_bitCount_49 (by decide) ?_
  refine r_iand dJ18_bitCount_51 ?_
  exact r_iret dJ18_bitCount_52 rfl (Nat.le_of_ble_eq_true rfl) (Nat.le_of_ble_eq_true rfl) (hQ)
theorem shl1 {n : Nat} (h : n ≤ 8) : (1 : Int32) <<< (nI n &&& 31) = nI (2 ^ n) := by
  rcases (show n = 0 ∨ n = 1 ∨ n = 2 ∨ n = 3 ∨ n = 4 ∨ n = 5 ∨ n = 6 ∨ n = 7 ∨ n = 8 by omega) with rfl | rfl | rfl | rfl | rfl | rfl | rfl | rfl | rfl <;> decide
theorem p2_le {n : Nat} (h : n ≤ 8) : 2 ^ n ≤ 256 := Nat.pow_le_pow_right (by decide) h
theorem p2_pos (n : Nat) : 0 < 2 ^ n := Nat.two_pow_pos n
/-- everybody -/
def allS (n : Nat) : Int32 := nI (2 ^ n - 1)
theorem shl1m {n : Nat} (h : n ≤ 8) : (1 : Int32) <<< (nI n &&& 31) - 1 = allS n := by
  rw [shl1 h, show (1 : Int32) = nI 1 from rfl, pk_sub (p2_pos n)]
  rfl
/-- bits counted, and bits: for sets of at most 8 -/
theorem bc_tab : (List.range 256).all (fun k => (List.range 9).all (fun n => decide (k < 2 ^ n → bcF (nI k) = nI (cntI (fun l => hasB (nI k) (nI l)) n)))) = true := by decide +kernel
theorem bc_cnt {k n : Nat} (hn : n ≤ 8) (hk : k < 2 ^ n) : bcF (nI k) = nI (cntI (fun l => hasB (nI k) (nI l)) n) := by
  have h1 : k < 256 := Nat.lt_of_lt_of_le hk (p2_le hn)
  have h := List.all_eq_true.mp bc_tab k (List.mem_range.mpr h1)
  have h2 := List.all_eq_true.mp h n (List.mem_range.mpr (by omega))
  exact (of_decide_eq_true h2) hk
theorem ordL_cnt (ag : Nat → Int32) (set : Int32) : ∀ n, (ordL ag set n).length = cntI (fun l => hasB set (nI l)) n
  | 0 => rfl
  | n + 1 => by
    have ih := ordL_cnt ag set n
    simp only [ordL, cntI]
    split
    · rw [insO_len, ih]
    · rw [ih]; rfl
section SP
variable (kN : Nat → Nat) (ow lk ag : Nat → Int32) (n : Nat) (th : Nat → Int32)
/-- how many of a set are glad -/
def gcF (set : Int32) : Int32 := nI (cntI (fun l => hasB set (nI l) && gladB th ((evR kN ow lk ag n th set).2.1 l) (ow l)) n)
def glF (j : Nat) (set : Int32) : Bool := gladB th ((evR kN ow lk ag n th set).2.1 j) (ow j)
def leF (set : Int32) : Int32 := bitsI (fun p => (evR kN ow lk ag n th set).1 p != -1) 12
/-- the fewest who must stay away that j be glad: of the sets below k -/
def awF (j : Nat) : Nat → Int32
  | 0 => -1
  | k + 1 => if hasB (nI k) (nI j) = false ∧ (awF j k = -1 ∨ bcF (nI k) < bcF (awF j k)) ∧ glF kN ow lk ag n th j (allS n &&& (nI k ^^^ (-1))) = true then nI k else awF j k
/-- the best crowd of q: which, how many glad -/
def crF (q i0 : Int32) : Nat → Int32 × Int32
  | 0 => (i0, -1)
  | k + 1 => if bcF (nI k) = q ∧ (crF q i0 k).2 < gcF kN ow lk ag n th (nI k) then (nI k, gcF kN ow lk ag n th (nI k)) else crF q i0 k
/-- ages of two exchanged: how many are glad, if all come -/
def exF (x y : Nat) : Int32 := gcF kN ow lk (upd (upd ag x (ag y)) y (ag x)) n th (allS n)
def bpI (x : Nat) (S : Int32 × Int32) : Nat → Int32 × Int32
  | 0 => S
  | k + 1 => if (bpI x S k).2 < exF kN ow lk ag n th x (x + 1 + k) then (10 * nI x + nI (x + 1 + k), exF kN ow lk ag n th x (x + 1 + k)) else bpI x S k
def bpO : Nat → Int32 × Int32
  | 0 => (-1, -1)
  | x + 1 => bpI kN ow lk ag n th x (bpO x) (n - (x + 1))
def olF (j : Nat) : Int32 := lstI (fun g => glF kN ow lk (upd ag j (nI g)) n th j (allS n)) 100
def twF (s t : Int32) : Int32 := bitsI (fun p => (runS kN ow lk (ordL ag t n) ((evR kN ow lk ag n th s).1, fun _ => 0, fun _ => -1)).1 p != -1) 12
/-- of the sets from k on, q of them, that leave just so much: all their members in common; all their members -/
def anG (c : Nat → Bool) : Nat → Nat → Int32
  | 0, _ => -1
  | q + 1, k => if c k = true then (if anG c q (k + 1) = -1 then nI k else anG c q (k + 1) &&& nI k) else anG c q (k + 1)
def orG (c : Nat → Bool) : Nat → Nat → Int32
  | 0, _ => 0
  | q + 1, k => if c k = true then orG c q (k + 1) ||| nI k else orG c q (k + 1)
def cnG (c : Nat → Bool) : Nat → Nat → Nat
  | 0, _ => 0
  | q + 1, k => cnG c q (k + 1) + (if c k = true then 1 else 0)
/-- sorts as bits, of j, by which he'd have taken just t -/
def kiF (set : Int32) (j : Nat) (t : Int32) : Nat → Int32 := bitsI (fun v => (evR (fun i => if i = j then v else kN i) ow lk ag n th set).2.1 j == t)
def koF (set : Int32) (j : Nat) (t : Int32) : Nat → Int32 := bitsI (fun v => (evR kN (upd ow j (nI v)) lk ag n th set).2.1 j == t)
end SP
theorem tk_1 (p : Int32) (P : Nat → Int32) (t t' f f' : Int32) : (tkF p (P, t, f)).1 = (tkF p (P, t', f')).1 := by
  simp only [tkF]
  split <;> rfl
theorem tk_1E (p : Int32) {E E' : EV} (h : E.1 = E'.1) : (tkF p E).1 = (tkF p E').1 := by
  obtain ⟨P, t, f⟩ := E
  obtain ⟨P', t', f'⟩ := E'
  have h' : P = P' := h
  subst h'
  exact tk_1 p P t t' f f'
theorem gr_1E (a : Int32) : ∀ (n : Nat) {E E' : EV}, E.1 = E'.1 → (grF a n E).1 = (grF a n E').1
  | 0, _, _, h => h
  | n + 1, E, E', h => by
    simp only [grF, h]
    split
    · exact h
    · exact gr_1E a n (tk_1E _ h)
theorem go_1E (k : Nat) (a lk : Int32) {E E' : EV} (h : E.1 = E'.1) : (goF k a lk E).1 = (goF k a lk E').1 := by
  unfold goF
  have h1 : ∀ p, (tkF p E).1 = (tkF p E').1 := fun p => tk_1E p h
  split
  · rw [h]; exact h1 _
  · simp only [h]
    split
    · rw [h1]; exact tk_1E _ (h1 _)
    · exact gr_1E a 12 h
  · simp only [h]
    split
    · exact h
    · split
      · exact h1 _
      · exact h
  · rw [h]; exact h1 _
  · rw [h, h1]; exact tk_1E _ (h1 _)
  · rw [h]; exact h1 _
theorem run_1 (kN : Nat → Nat) (ow lk : Nat → Int32) : ∀ (L : List Nat) {S S' : RS}, S.1 = S'.1 → (runS kN ow lk L S).1 = (runS kN ow lk L S').1
  | [], _, _, h => h
  | l :: L, S, S', h => by
    show (runS kN ow lk L (stR kN ow lk l S)).1 = (runS kN ow lk L (stR kN ow lk l S')).1
    exact run_1 kN ow lk L (go_1E _ _ _ h)
