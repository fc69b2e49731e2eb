set_option maxRecDepth 100000
/-! base: more rows; first contracts -/
theorem r_iincV {J : Jb} {ce sl pc : Nat} {lv : List (Option Value)} {st : List Value} {h : AHp} {i : Nat} {n : Int} {x v : Int32} (hd : decode J.1.2.1 pc = .ok (.iinc i n, 3)) (hv : lv[i]? = some (some (.int x))) (hn : i < J.1.2.2.1) (hx : x + Int32.ofInt n = v) (k : Rch J ce sl (pc + 3) (lvS1 lv i (.int v)) st h) : Rch J ce sl pc lv st h := by
  subst hx
  exact r_iinc hd hv hn k
theorem inc1 (x : Int32) : x + Int32.ofInt 1 = x + 1 := by rw [show Int32.ofInt 1 = 1 by decide]
theorem incN (k : Nat) : nI k + Int32.ofInt 1 = nI (k + 1) := by rw [inc1]; exact nI_1 k
theorem decN (k : Nat) : nI (k + 1) + Int32.ofInt (-1) = nI k := by rw [show Int32.ofInt (-1) = -1 by decide]; exact pk_m1 k
theorem r_objInit {J : Jb} {ce sl pc : Nat} {lv : List (Option Value)} {st : List Value} {h : AHp} {idx a : Nat} (hq : Cond.methodLink J.1.1.cls idx objectInit ∈ lw_all) (hd : decode J.1.2.1 pc = .ok (.invokespecial idx, 3)) (hcat : (st.map fun v => v.category).sum ≤ 8) (kk : Rch J ce sl (pc + 3) lv st h) : Rch J ce sl pc lv (.ref a :: st) h := by
  intro l G sg R p e s m args below meth c H locs ls hR C hl hH hS
  have hts := C.2.2.2.2.2.1
  refine W.objInit C.1 C.2.1 C.2.2.2.2.1 (hts _ hq) (hts _ q125) (hts _ q126) rfl (by rw [C.2.2.2.1]; exact hl.1) rfl hd (Nat.le_trans (by omega) hR.1) ?_ (kk l G sg R p e s m args below meth c H locs ls hR C hl hH hS)
  have h2 := hR.2.1
  rw [cat_map]
  show 2 * 0 + _ + 12 ≤ _
  omega
/-- an answer by another expression of it -/
theorem qi {Q : Option Value → AHp → Prop} {h : AHp} {a b : Int32} (e : a = b) (hQ : Q (some (.int b)) h) : oQ Q (.inl (some (.int a))) h := by subst e; exact hQ
theorem ql {Q : Option Value → AHp → Prop} {h : AHp} {a b : Int64} (e : a = b) (hQ : Q (some (.long b)) h) : oQ Q (.inl (some (.long a))) h := by subst e; exact hQ
theorem qv {Q : Option Value → AHp → Prop} {h : AHp} {a b : Int32} (e : a = b) (hQ : Q (some (.int b)) h) : Q (some (.int a)) h := by subst e; exact hQ
def b2i (b : Bool) : Int32 := if b = true then 1 else 0
theorem b2i_0 {b : Bool} : b2i b = 0 ↔ b = false := by cases b <;> decide
theorem b2i_n {b : Bool} : ¬ b2i b = 0 ↔ b = true := by cases b <;> decide
theorem b2i_nar (b : Bool) : narrow .boolean (.int (b2i b)) = .int (b2i b) := by cases b <;> rfl
/-- Java's has(set, i), in(set, i) -/
def hasB (s i : Int32) : Bool := ((s >>> (i &&& 31)) &&& 1) == 1
def inB (v a b : Int32) : Bool := decide (a ≤ v) && decide (v ≤ b)
theorem pX0_has {h : AHp} {s i : Int32} {Q : Option Value → AHp → Prop} (hQ : Q (some (.int (b2i (hasB s i)))) h) : AMet mX0_has 1 0 0 [.int s, .int i] h Q := by
  refine AMet.ofRch rfl rfl (Nat.le_of_ble_eq_true rfl) ?_
  refine r_iload_n dX0_has_0 rfl ?_
  refine r_iload_n dX0_has_1 rfl ?_
  refine r_ishr dX0_has_2 ?_
  refine r_iconst 1 dX0_has_3 (by decide) ?_
  refine r_iand dX0_has_4 ?_
  refine r_iconst 1 dX0_has_5 (by decide) ?_
  refine r_icmp_ne 13 dX0_has_6 (by decide) (fun c_6 => ?_) (fun c_6 => ?_)
  · refine r_iconst 0 dX0_has_13 (by decide) ?_
    exact r_zret (ty := .boolean) dX0_has_14 rfl (rfl) (Nat.le_of_ble_eq_true rfl) (Nat.le_of_ble_eq_true rfl) (qi (by simp [b2i, hasB, c_6]) hQ)
  · refine r_iconst 1 dX0_has_9 (by decide) ?_
    refine r_goto 14 dX0_has_10 (by decide) ?_
    exact r_zret (ty := .boolean) dX0_has_14 rfl (rfl) (Nat.le_of_ble_eq_true rfl) (Nat.le_of_ble_eq_true rfl) (qi (by simp [b2i, hasB, c_6]) hQ)
theorem pX0_isIn {h : AHp} {v a b : Int32} {Q : Option Value → AHp → Prop} (hQ : Q (some (.int (b2i (inB v a b)))) h) : AMet mX0_isIn 1 0 0 [.int v, .int a, .int b] h Q := by
  refine AMet.ofRch rfl rfl (Nat.le_of_ble_eq_true rfl) ?_
  refine r_iload_n dX0_isIn_0 rfl ?_
  refine r_iload_n dX0_isIn_1 rfl ?_
  refine r_icmp_lt 14 dX0_isIn_2 (by decide) (fun c_2 => ?_) (fun c_2 => ?_)
  · refine r_iconst 0 dX0_isIn_14 (by decide) ?_
    exact r_zret (ty := .boolean) dX0_isIn_15 rfl (rfl) (Nat.le_of_ble_eq_true rfl) (Nat.le_of_ble_eq_true rfl) (qi (by simp_all [b2i, inB, Int32.le_iff_toInt_le, Int32.lt_iff_toInt_lt]; try omega) hQ)
  · refine r_iload_n dX0_isIn_5 rfl ?_
    refine r_iload_n dX0_isIn_6 rfl ?_
    refine r_icmp_gt 14 dX0_isIn_7 (by decide) (fun c_7 => ?_) (fun c_7 => ?_)
    · refine r_iconst 0 dX0_isIn_14 (by decide) ?_
      exact r_zret (ty := .boolean) dX0_isIn_15 rfl (rfl) (Nat.le_of_ble_eq_true rfl) (Nat.le_of_ble_eq_true rfl) (qi (by simp_all [b2i, inB, Int32.le_iff_toInt_le, Int32.lt_iff_toInt_lt]; try omega) hQ)
    · refine r_iconst 1 dX0_isIn_10 (by decide) ?_
      refine r_goto 15 dX0_isIn_11 (by decide) ?_
      exact r_zret (ty := .boolean) dX0_isIn_15 rfl (rfl) (Nat.le_of_ble_eq_true rfl) (Nat.le_of_ble_eq_true rfl) (qi (by simp_all [b2i, inB, Int32.le_iff_toInt_le, Int32.lt_iff_toInt_lt]; try omega) hQ)
theorem pX5_in {h : AHp} {s i : Int32} {Q : Option Value → AHp → Prop} (hQ : Q (some (.int (b2i (hasB s i)))) h) : AMet mX5_in 1 0 0 [.int s, .int i] h Q := by
  refine AMet.ofRch rfl rfl (Nat.le_of_ble_eq_true rfl) ?_
  refine r_iload_n dX5_in_0 rfl ?_
  refine r_iload_n dX5_in_1 rfl ?_
  refine r_ishr dX5_in_2 ?_
  refine r_iconst 1 dX5_in_3 (by decide) ?_
  refine r_iand dX5_in_4 ?_
  refine r_iconst 1 dX5_in_5 (by decide) ?_
  refine r_icmp_ne 13 dX5_in_6 (by decide) (fun c_6 => ?_) (fun c_6 => ?_)
  · refine r_iconst 0 dX5_in_13 (by decide) ?_
    exact r_zret (ty := .boolean) dX5_in_14 rfl (rfl) (Nat.le_of_ble_eq_true rfl) (Nat.le_of_ble_eq_true rfl) (qi (by simp [b2i, hasB, c_6]) hQ)
  · refine r_iconst 1 dX5_in_9 (by decide) ?_
    refine r_goto 14 dX5_in_10 (by decide) ?_
    exact r_zret (ty := .boolean) dX5_in_14 rfl (rfl) (Nat.le_of_ble_eq_true rfl) (Nat.le_of_ble_eq_true rfl) (qi (by simp [b2i, hasB, c_6]) hQ)
theorem pX5_within {h : AHp} {v a b : Int32} {Q : Option Value → AHp → Prop} (hQ : Q (some (.int (b2i (inB v a b)))) h) : AMet mX5_within 1 0 0 [.int v, .int a, .int b] h Q := by
  refine AMet.ofRch rfl rfl (Nat.le_of_ble_eq_true rfl) ?_
  refine r_iload_n dX5_within_0 rfl ?_
  refine r_iload_n dX5_within_1 rfl ?_
  refine r_icmp_lt 14 dX5_within_2 (by decide) (fun c_2 => ?_) (fun c_2 => ?_)
  · refine r_iconst 0 dX5_within_14 (by decide) ?_
    exact r_zret (ty := .boolean) dX5_within_15 rfl (rfl) (Nat.le_of_ble_eq_true rfl) (Nat.le_of_ble_eq_true rfl) (qi (by simp_all [b2i, inB, Int32.le_iff_toInt_le, Int32.lt_iff_toInt_lt]; try omega) hQ)
  · refine r_iload_n dX5_within_5 rfl ?_
    refine r_iload_n dX5_within_6 rfl ?_
    refine r_icmp_gt 14 dX5_within_7 (by decide) (fun c_7 => ?_) (fun c_7 => ?_)
    · refine r_iconst 0 dX5_within_14 (by decide) ?_
      exact r_zret (ty := .boolean) dX5_within_15 rfl (rfl) (Nat.le_of_ble_eq_true rfl) (Nat.le_of_ble_eq_true rfl) (qi (by simp_all [b2i, inB, Int32.le_iff_toInt_le, Int32.lt_iff_toInt_lt]; try omega) hQ)
    · refine r_iconst 1 dX5_within_10 (by decide) ?_
      refine r_goto 15 dX5_within_11 (by decide) ?_
      exact r_zret (ty := .boolean) dX5_within_15 rfl (rfl) (Nat.le_of_ble_eq_true rfl) (Nat.le_of_ble_eq_true rfl) (qi (by simp_all [b2i, inB, Int32.le_iff_toInt_le, Int32.lt_iff_toInt_lt]; try omega) hQ)
