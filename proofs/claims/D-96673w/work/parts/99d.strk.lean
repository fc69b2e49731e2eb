set_option maxRecDepth 100000
/-! the String constants (region 4), and rows that read them (facts printed by gen/strk.py) -/
/-- a String constant: its number, length, bytes, hash -/
def Sk (i n : Nat) (b : List Int32) (hv : Int32) : Prop := ∀ (G : GX) (s : State), Old G s s.heap → va_O "java/lang/String" (G.2.2.2.1 (i + 1)) (gA G) s s.heap ∧ va_OF "java/lang/String" "coder" "B" (.int 0) (G.2.2.2.1 (i + 1)) (gA G) s s.heap ∧ va_OF "java/lang/String" "value" "[B" (.ref (G.2.2.2.1 (i + 15))) (G.2.2.2.1 (i + 1)) (gA G) s s.heap ∧ va_T .byte (G.2.2.2.1 (i + 15)) n (fun j => .int (b.getD j 0)) (gA G) s s.heap ∧ va_OF "java/lang/String" "hash" "I" (.int hv) (G.2.2.2.1 (i + 1)) (gA G) s s.heap ∧ n < 1000
theorem sk_of {i n : Nat} {b : List Int32} {hv : Int32} {own : String} {k : Nat} (hi : strT[i]? = some (Term.string own k)) (hi2 : strT[i + 14]? = some (Term.field (Term.string own k) "java/lang/String" "value" "[B")) (hN : n < 1000)
    (hex : ∀ G, K0 G → (Cond.exactly (Term.string own k) "java/lang/String").before G.2.2.2.2.2.2.2 G.2.2.2.2.2.2.1 = true) (hco : ∀ G, K0 G → (Cond.eq (.field (Term.string own k) "java/lang/String" "coder" "B") (.int 0)).before G.2.2.2.2.2.2.2 G.2.2.2.2.2.2.1 = true)
    (har : ∀ G, K0 G → (Cond.arrayOf (.field (Term.string own k) "java/lang/String" "value" "[B") .byte).before G.2.2.2.2.2.2.2 G.2.2.2.2.2.2.1 = true) (hle : ∀ G, K0 G → (Cond.eq (.length (.field (Term.string own k) "java/lang/String" "value" "[B")) (.int (Int32.ofNat n))).before G.2.2.2.2.2.2.2 G.2.2.2.2.2.2.1 = true)
    (hel : ∀ G, K0 G → ∀ j : Nat, j < n → (Cond.eq (.elem (.field (Term.string own k) "java/lang/String" "value" "[B") (.int (Int32.ofNat j))) (.int (b.getD j 0))).before G.2.2.2.2.2.2.2 G.2.2.2.2.2.2.1 = true)
    (hha : ∀ G, K0 G → (Cond.eq (.field (Term.string own k) "java/lang/String" "hash" "I") (.int hv)).before G.2.2.2.2.2.2.2 G.2.2.2.2.2.2.1 = true) : Sk i n b hv := by
  intro G s ho
  have hA : ∀ a : Nat, a < G.2.2.2.2.2.2.1.heap.size → ¬ gA G a := fun a ha h => by
    have h : G.2.2.1 ≤ a := h
    rw [ho.2.1] at ha
    omega
  have K := ho.2.2.2
  have hq : ∀ a : Nat, a < G.2.2.2.2.2.2.1.heap.size → ¬ gA G a → s.heap[a]? = G.2.2.2.2.2.2.1.heap[a]? := fun a ha _ => ho.2.2.1 a (by rw [← ho.2.1]; exact ha)
  have al := ho.1.alike
  obtain ⟨a, c, cA, kA, q1, q2, q3, q4, q5, q6, -⟩ := Cond.exactly_spec (args := G.2.2.2.2.2.2.2) (first := G.2.2.2.2.2.2.1) (o := none) (s := G.2.2.2.2.2.2.1) (idx := []) (t := Term.string own k) (cls := "java/lang/String") (hex G K)
  obtain ⟨t, ht, hT⟩ := va_Tof (f := fun j => .int (b.getD j 0)) (A := gA G) (show n < 2 ^ 31 by omega) (har G K) (va_eqt (hle G K)) (fun j hj => va_eqt (hel G K j hj)) hA
  have e1 : G.2.2.2.1 (i + 1) = a := K.2.2.2.1 i _ a hi q1
  have e2 : G.2.2.2.1 (i + 15) = t := K.2.2.2.1 (i + 14) _ t hi2 ht
  rw [e1, e2]
  refine ⟨va_O.kept (va_O.moved al ⟨cA, q3, q5, by rw [q6]; exact q2, hA a (Array.getElem?_eq_some_iff.mp q3).1⟩) hq, va_OF.kept (va_OF.moved al (vk_OFof q1 (va_eqt (hco G K)) hA)) hq, va_OF.kept (va_OF.moved al (vk_OFof q1 ht hA)) hq, va_T.kept (va_T.moved al hT) hq, va_OF.kept (va_OF.moved al (vk_OFof q1 (va_eqt (hha G K)) hA)) hq, hN⟩
/-- ; -/
theorem sk_1 : Sk 1 1 [59] 59 := by
  refine sk_of (own := "SeenInOrderOfAge$Reader") (k := 57) rfl rfl (by decide) (fun G h => nar h [true, true, false, false, false, true, false, true, false, false] rfl) (fun G h => nar h [true, true, false, false, false, true, false, true, false, true] rfl) (fun G h => nar h [true, true, false, false, false, true, false, true, true, false] rfl) (fun G h => nar h [true, true, false, false, false, true, false, true, true, true] rfl) (fun G h j hj => ?_) (fun G h => nar h [true, true, false, false, false, true, true, false, false, true] rfl)
  match j, hj with
  | 0, _ => exact nar h [true, true, false, false, false, true, true, false, false, false] rfl
/-- place -/
theorem sk_2 : Sk 2 5 [112, 108, 97, 99, 101] 106748167 := by
  refine sk_of (own := "SeenInOrderOfAge$Reader") (k := 88) rfl rfl (by decide) (fun G h => nar h [true, true, false, false, false, true, true, true, false, false] rfl) (fun G h => nar h [true, true, false, false, false, true, true, true, false, true] rfl) (fun G h => nar h [true, true, false, false, false, true, true, true, true, false] rfl) (fun G h => nar h [true, true, false, false, false, true, true, true, true, true, false] rfl) (fun G h j hj => ?_) (fun G h => nar h [true, true, false, false, true, false, false, true, false, false] rfl)
  match j, hj with
  | 0, _ => exact nar h [true, true, false, false, false, true, true, true, true, true, true] rfl
  | 1, _ => exact nar h [true, true, false, false, true, false, false, false, false, false] rfl
  | 2, _ => exact nar h [true, true, false, false, true, false, false, false, false, true] rfl
  | 3, _ => exact nar h [true, true, false, false, true, false, false, false, true, false] rfl
  | 4, _ => exact nar h [true, true, false, false, true, false, false, false, true, true] rfl
/-- clear -/
theorem sk_3 : Sk 3 5 [99, 108, 101, 97, 114] 94746189 := by
  refine sk_of (own := "SeenInOrderOfAge$Reader") (k := 90) rfl rfl (by decide) (fun G h => nar h [true, true, false, false, true, false, true, false, false, false] rfl) (fun G h => nar h [true, true, false, false, true, false, true, false, false, true] rfl) (fun G h => nar h [true, true, false, false, true, false, true, false, true, false] rfl) (fun G h => nar h [true, true, false, false, true, false, true, false, true, true] rfl) (fun G h j hj => ?_) (fun G h => nar h [true, true, false, false, true, true, false, false, false, false] rfl)
  match j, hj with
  | 0, _ => exact nar h [true, true, false, false, true, false, true, true, false, false] rfl
  | 1, _ => exact nar h [true, true, false, false, true, false, true, true, false, true] rfl
  | 2, _ => exact nar h [true, true, false, false, true, false, true, true, true, false] rfl
  | 3, _ => exact nar h [true, true, false, false, true, false, true, true, true, true, false] rfl
  | 4, _ => exact nar h [true, true, false, false, true, false, true, true, true, true, true] rfl
/-- looker -/
theorem sk_4 : Sk 4 6 [108, 111, 111, 107, 101, 114] (-1097095284) := by
  refine sk_of (own := "SeenInOrderOfAge$Reader") (k := 92) rfl rfl (by decide) (fun G h => nar h [true, true, false, false, true, true, false, true, false, true] rfl) (fun G h => nar h [true, true, false, false, true, true, false, true, true, false] rfl) (fun G h => nar h [true, true, false, false, true, true, false, true, true, true] rfl) (fun G h => nar h [true, true, false, false, true, true, true, false, false, false] rfl) (fun G h j hj => ?_) (fun G h => nar h [true, true, false, false, true, true, true, true, true, true, false] rfl)
  match j, hj with
  | 0, _ => exact nar h [true, true, false, false, true, true, true, false, false, true] rfl
  | 1, _ => exact nar h [true, true, false, false, true, true, true, false, true, false] rfl
  | 2, _ => exact nar h [true, true, false, false, true, true, true, false, true, true] rfl
  | 3, _ => exact nar h [true, true, false, false, true, true, true, true, false, false] rfl
  | 4, _ => exact nar h [true, true, false, false, true, true, true, true, false, true] rfl
  | 5, _ => exact nar h [true, true, false, false, true, true, true, true, true, false] rfl
/-- likes -/
theorem sk_5 : Sk 5 5 [108, 105, 107, 101, 115] 102974396 := by
  refine sk_of (own := "SeenInOrderOfAge$Reader") (k := 94) rfl rfl (by decide) (fun G h => nar h [true, true, false, true, false, false, false, true, false, false] rfl) (fun G h => nar h [true, true, false, true, false, false, false, true, false, true] rfl) (fun G h => nar h [true, true, false, true, false, false, false, true, true, false] rfl) (fun G h => nar h [true, true, false, true, false, false, false, true, true, true] rfl) (fun G h j hj => ?_) (fun G h => nar h [true, true, false, true, false, false, true, true, false, true] rfl)
  match j, hj with
  | 0, _ => exact nar h [true, true, false, true, false, false, true, false, false, false] rfl
  | 1, _ => exact nar h [true, true, false, true, false, false, true, false, false, true] rfl
  | 2, _ => exact nar h [true, true, false, true, false, false, true, false, true, false] rfl
  | 3, _ => exact nar h [true, true, false, true, false, false, true, false, true, true] rfl
  | 4, _ => exact nar h [true, true, false, true, false, false, true, true, false, false] rfl
/-- comes -/
theorem sk_6 : Sk 6 5 [99, 111, 109, 101, 115] 94843375 := by
  refine sk_of (own := "SeenInOrderOfAge$Reader") (k := 96) rfl rfl (by decide) (fun G h => nar h [true, true, false, true, false, true, false, true, false, false] rfl) (fun G h => nar h [true, true, false, true, false, true, false, true, false, true] rfl) (fun G h => nar h [true, true, false, true, false, true, false, true, true, false] rfl) (fun G h => nar h [true, true, false, true, false, true, false, true, true, true] rfl) (fun G h j hj => ?_) (fun G h => nar h [true, true, false, true, false, true, true, true, false, true] rfl)
  match j, hj with
  | 0, _ => exact nar h [true, true, false, true, false, true, true, false, false, false] rfl
  | 1, _ => exact nar h [true, true, false, true, false, true, true, false, false, true] rfl
  | 2, _ => exact nar h [true, true, false, true, false, true, true, false, true, false] rfl
  | 3, _ => exact nar h [true, true, false, true, false, true, true, false, true, true] rfl
  | 4, _ => exact nar h [true, true, false, true, false, true, true, true, false, false] rfl
/-- shine -/
theorem sk_7 : Sk 7 5 [115, 104, 105, 110, 101] 109407595 := by
  refine sk_of (own := "SeenInOrderOfAge$Reader") (k := 98) rfl rfl (by decide) (fun G h => nar h [true, true, false, true, true, false, false, true, false, false] rfl) (fun G h => nar h [true, true, false, true, true, false, false, true, false, true] rfl) (fun G h => nar h [true, true, false, true, true, false, false, true, true, false] rfl) (fun G h => nar h [true, true, false, true, true, false, false, true, true, true] rfl) (fun G h j hj => ?_) (fun G h => nar h [true, true, false, true, true, false, true, true, false, true] rfl)
  match j, hj with
  | 0, _ => exact nar h [true, true, false, true, true, false, true, false, false, false] rfl
  | 1, _ => exact nar h [true, true, false, true, true, false, true, false, false, true] rfl
  | 2, _ => exact nar h [true, true, false, true, true, false, true, false, true, false] rfl
  | 3, _ => exact nar h [true, true, false, true, true, false, true, false, true, true] rfl
  | 4, _ => exact nar h [true, true, false, true, true, false, true, true, false, false] rfl
/-- place -/
theorem sk_8 : Sk 8 5 [112, 108, 97, 99, 101] 106748167 := by
  refine sk_of (own := "SeenInOrderOfAgeModel") (k := 165) rfl rfl (by decide) (fun G h => nar h [true, true, false, true, true, true, false, true, false, true] rfl) (fun G h => nar h [true, true, false, true, true, true, false, true, true, false] rfl) (fun G h => nar h [true, true, false, true, true, true, false, true, true, true] rfl) (fun G h => nar h [true, true, false, true, true, true, true, false, false, false] rfl) (fun G h j hj => ?_) (fun G h => nar h [true, true, false, true, true, true, true, true, true, false] rfl)
  match j, hj with
  | 0, _ => exact nar h [true, true, false, true, true, true, true, false, false, true] rfl
  | 1, _ => exact nar h [true, true, false, true, true, true, true, false, true, false] rfl
  | 2, _ => exact nar h [true, true, false, true, true, true, true, false, true, true] rfl
  | 3, _ => exact nar h [true, true, false, true, true, true, true, true, false, false] rfl
  | 4, _ => exact nar h [true, true, false, true, true, true, true, true, false, true] rfl
/-- clear -/
theorem sk_9 : Sk 9 5 [99, 108, 101, 97, 114] 94746189 := by
  refine sk_of (own := "SeenInOrderOfAgeModel") (k := 175) rfl rfl (by decide) (fun G h => nar h [true, true, true, false, false, false, false, true, true, true] rfl) (fun G h => nar h [true, true, true, false, false, false, true, false, false, false] rfl) (fun G h => nar h [true, true, true, false, false, false, true, false, false, true] rfl) (fun G h => nar h [true, true, true, false, false, false, true, false, true, false] rfl) (fun G h j hj => ?_) (fun G h => nar h [true, true, true, false, false, true, false, false, false, false] rfl)
  match j, hj with
  | 0, _ => exact nar h [true, true, true, false, false, false, true, false, true, true] rfl
  | 1, _ => exact nar h [true, true, true, false, false, false, true, true, false, false] rfl
  | 2, _ => exact nar h [true, true, true, false, false, false, true, true, false, true] rfl
  | 3, _ => exact nar h [true, true, true, false, false, false, true, true, true, false] rfl
  | 4, _ => exact nar h [true, true, true, false, false, false, true, true, true, true] rfl
/-- looker -/
theorem sk_10 : Sk 10 6 [108, 111, 111, 107, 101, 114] (-1097095284) := by
  refine sk_of (own := "SeenInOrderOfAgeModel") (k := 177) rfl rfl (by decide) (fun G h => nar h [true, true, true, false, false, true, true, false, true, true] rfl) (fun G h => nar h [true, true, true, false, false, true, true, true, false, false] rfl) (fun G h => nar h [true, true, true, false, false, true, true, true, false, true] rfl) (fun G h => nar h [true, true, true, false, false, true, true, true, true, false] rfl) (fun G h j hj => ?_) (fun G h => nar h [true, true, true, false, true, false, false, true, false, false] rfl)
  match j, hj with
  | 0, _ => exact nar h [true, true, true, false, false, true, true, true, true, true, false] rfl
  | 1, _ => exact nar h [true, true, true, false, false, true, true, true, true, true, true] rfl
  | 2, _ => exact nar h [true, true, true, false, true, false, false, false, false, false] rfl
  | 3, _ => exact nar h [true, true, true, false, true, false, false, false, false, true] rfl
  | 4, _ => exact nar h [true, true, true, false, true, false, false, false, true, false] rfl
  | 5, _ => exact nar h [true, true, true, false, true, false, false, false, true, true] rfl
/-- likes -/
theorem sk_11 : Sk 11 5 [108, 105, 107, 101, 115] 102974396 := by
  refine sk_of (own := "SeenInOrderOfAgeModel") (k := 179) rfl rfl (by decide) (fun G h => nar h [true, true, true, false, true, false, true, true, true, true, true] rfl) (fun G h => nar h [true, true, true, false, true, true, false, false, false, false] rfl) (fun G h => nar h [true, true, true, false, true, true, false, false, false, true] rfl) (fun G h => nar h [true, true, true, false, true, true, false, false, true, false] rfl) (fun G h j hj => ?_) (fun G h => nar h [true, true, true, false, true, true, true, false, false, false] rfl)
  match j, hj with
  | 0, _ => exact nar h [true, true, true, false, true, true, false, false, true, true] rfl
  | 1, _ => exact nar h [true, true, true, false, true, true, false, true, false, false] rfl
  | 2, _ => exact nar h [true, true, true, false, true, true, false, true, false, true] rfl
  | 3, _ => exact nar h [true, true, true, false, true, true, false, true, true, false] rfl
  | 4, _ => exact nar h [true, true, true, false, true, true, false, true, true, true] rfl
/-- comes -/
theorem sk_12 : Sk 12 5 [99, 111, 109, 101, 115] 94843375 := by
  refine sk_of (own := "SeenInOrderOfAgeModel") (k := 181) rfl rfl (by decide) (fun G h => nar h [true, true, true, true, false, false, false, true, false, false] rfl) (fun G h => nar h [true, true, true, true, false, false, false, true, false, true] rfl) (fun G h => nar h [true, true, true, true, false, false, false, true, true, false] rfl) (fun G h => nar h [true, true, true, true, false, false, false, true, true, true] rfl) (fun G h j hj => ?_) (fun G h => nar h [true, true, true, true, false, false, true, true, false, true] rfl)
  match j, hj with
  | 0, _ => exact nar h [true, true, true, true, false, false, true, false, false, false] rfl
  | 1, _ => exact nar h [true, true, true, true, false, false, true, false, false, true] rfl
  | 2, _ => exact nar h [true, true, true, true, false, false, true, false, true, false] rfl
  | 3, _ => exact nar h [true, true, true, true, false, false, true, false, true, true] rfl
  | 4, _ => exact nar h [true, true, true, true, false, false, true, true, false, false] rfl
/-- shine -/
theorem sk_13 : Sk 13 5 [115, 104, 105, 110, 101] 109407595 := by
  refine sk_of (own := "SeenInOrderOfAgeModel") (k := 182) rfl rfl (by decide) (fun G h => nar h [true, true, true, true, false, true, true, false, true, true] rfl) (fun G h => nar h [true, true, true, true, false, true, true, true, false, false] rfl) (fun G h => nar h [true, true, true, true, false, true, true, true, false, true] rfl) (fun G h => nar h [true, true, true, true, false, true, true, true, true, false] rfl) (fun G h j hj => ?_) (fun G h => nar h [true, true, true, true, true, false, false, false, true, true] rfl)
  match j, hj with
  | 0, _ => exact nar h [true, true, true, true, false, true, true, true, true, true, false] rfl
  | 1, _ => exact nar h [true, true, true, true, false, true, true, true, true, true, true] rfl
  | 2, _ => exact nar h [true, true, true, true, true, false, false, false, false, false] rfl
  | 3, _ => exact nar h [true, true, true, true, true, false, false, false, false, true] rfl
  | 4, _ => exact nar h [true, true, true, true, true, false, false, false, true, false] rfl
theorem r_getK {J : Jb} {ce sl pc : Nat} {lv : List (Option Value)} {st : List Value} {h : AHp} {index a : Nat} {fn fd : String} {v : Value} (hof : ∀ (G : GX) (sg : Nat → Nat) (s : State), Old G s s.heap → (∀ i, sg (8 * i + 4) = G.2.2.2.1 i) → va_OF "java/lang/String" fn fd (rv sg v) (sg a) (gA G) s s.heap) (hq : Cond.fieldLink J.1.1.cls index "java/lang/String" fn fd ∈ lw_all) (hd : decode J.1.2.1 pc = .ok (.getfield index, 3)) (kk : Rch J ce sl (pc + 3) lv (v :: st) h) : Rch J ce sl pc lv (.ref a :: st) h := by
  intro l G sg R p e s m args below meth c H locs ls hR C hl hH hS
  exact vk_getf C.1 C.2.1 (hof G sg s C.2.2.2.2.2.2.2.2.1.2.2.2.2.2.2.2 hH.2.2.2.2) hS C.2.2.2.2.1 (C.2.2.2.2.2.1 _ hq) (fun x hx => hx) hd (kk l G sg R p e s m args below meth c H locs ls hR C hl hH hS)
theorem r_getKc {J : Jb} {ce sl pc : Nat} {lv : List (Option Value)} {st : List Value} {h : AHp} {index i n : Nat} {b : List Int32} {hv : Int32} (k : Sk i n b hv) (hq : Cond.fieldLink J.1.1.cls index "java/lang/String" "coder" "B" ∈ lw_all) (hd : decode J.1.2.1 pc = .ok (.getfield index, 3)) (kk : Rch J ce sl (pc + 3) lv (.int 0 :: st) h) : Rch J ce sl pc lv (.ref (8 * (i + 1) + 4) :: st) h :=
  r_getK (fun G sg s ho hs => by rw [hs (i + 1)]; exact (k G s ho).2.1) hq hd kk
theorem r_getKv {J : Jb} {ce sl pc : Nat} {lv : List (Option Value)} {st : List Value} {h : AHp} {index i n : Nat} {b : List Int32} {hv : Int32} (k : Sk i n b hv) (hq : Cond.fieldLink J.1.1.cls index "java/lang/String" "value" "[B" ∈ lw_all) (hd : decode J.1.2.1 pc = .ok (.getfield index, 3)) (kk : Rch J ce sl (pc + 3) lv (.ref (8 * (i + 15) + 4) :: st) h) : Rch J ce sl pc lv (.ref (8 * (i + 1) + 4) :: st) h :=
  r_getK (fun G sg s ho hs => by
    show va_OF _ _ _ (.ref (sg (8 * (i + 15) + 4))) _ _ _ _
    rw [hs (i + 1), hs (i + 15)]; exact (k G s ho).2.2.1) hq hd kk
theorem r_getKh {J : Jb} {ce sl pc : Nat} {lv : List (Option Value)} {st : List Value} {h : AHp} {index i n : Nat} {b : List Int32} {hv : Int32} (k : Sk i n b hv) (hq : Cond.fieldLink J.1.1.cls index "java/lang/String" "hash" "I" ∈ lw_all) (hd : decode J.1.2.1 pc = .ok (.getfield index, 3)) (kk : Rch J ce sl (pc + 3) lv (.int hv :: st) h) : Rch J ce sl pc lv (.ref (8 * (i + 1) + 4) :: st) h :=
  r_getK (fun G sg s ho hs => by rw [hs (i + 1)]; exact (k G s ho).2.2.2.2.1) hq hd kk
theorem r_alenK {J : Jb} {ce sl pc : Nat} {lv : List (Option Value)} {st : List Value} {h : AHp} {i n : Nat} {b : List Int32} {hv : Int32} (k : Sk i n b hv) (hd : decode J.1.2.1 pc = .ok (.arraylength, 1)) (kk : Rch J ce sl (pc + 1) lv (.int (nI n) :: st) h) : Rch J ce sl pc lv (.ref (8 * (i + 15) + 4) :: st) h := by
  intro l G sg R p e s m args below meth c H locs ls hR C hl hH hS
  have z := (k G s C.2.2.2.2.2.2.2.2.1.2.2.2.2.2.2.2).2.2.2.1
  rw [← hH.2.2.2.2 (i + 15)] at z
  exact va_tlen C.1 C.2.1 z hS rfl hd (kk l G sg R p e s m args below meth c H locs ls hR C hl hH hS)
theorem r_baldK {J : Jb} {ce sl pc : Nat} {lv : List (Option Value)} {st : List Value} {h : AHp} {i n j : Nat} {b : List Int32} {hv : Int32} (k : Sk i n b hv) (hj : j < n) (hd : decode J.1.2.1 pc = .ok (.baload, 1)) (kk : Rch J ce sl (pc + 1) lv (.int (b.getD j 0) :: st) h) : Rch J ce sl pc lv (.int (nI j) :: .ref (8 * (i + 15) + 4) :: st) h := by
  intro l G sg R p e s m args below meth c H locs ls hR C hl hH hS
  have z9 := (k G s C.2.2.2.2.2.2.2.2.1.2.2.2.2.2.2.2).2.2.2
  have z := z9.1
  rw [← hH.2.2.2.2 (i + 15)] at z
  exact va_tb C.1 C.2.1 z hS (i := nI j) (vp_in_nI hj (by have := z9.2.2; omega)) (v := .int (b.getD j 0)) (by show Value.int (b.getD (nI j).toNatClampNeg 0) = _; rw [nI_clamp (by have := z9.2.2; omega)]) hd (kk l G sg R p e s m args below meth c H locs ls hR C hl hH hS)
theorem sk_recv {G : GX} {sg : Nat → Nat} {s : State} {h : AHp} {H : Heap} {locs : List Loc} {i n : Nat} {b : List Int32} {hv : Int32} (k : Sk i n b hv) (ho : Old G s s.heap) (hH : Hd G sg h H) (hS : va_S (gA G) s.heap H locs) : ∃ cell : Cell, H[sg (8 * (i + 1) + 4)]? = some cell ∧ cell.vm.isStatics = false ∧ s.vm.findClass "java/lang/String" = some cell.cls := by
  obtain ⟨cell, h1, h2, h3, -⟩ := (k G s ho).1.kept hS.2.1
  rw [hH.2.2.2.2 (i + 1)]
  exact ⟨cell, h1, h2, h3⟩
theorem r_instK {J : Jb} {ce sl pc : Nat} {lv : List (Option Value)} {st : List Value} {h : AHp} {index i n : Nat} {b : List Int32} {hv : Int32} (k : Sk i n b hv) (hq : Cond.classLink J.1.1.cls index "java/lang/String" ∈ lw_all) (hd : decode J.1.2.1 pc = .ok (.instanceof index, 3)) (kk : Rch J ce sl (pc + 3) lv (.int 1 :: st) h) : Rch J ce sl pc lv (.ref (8 * (i + 1) + 4) :: st) h := by
  intro l G sg R p e s m args below meth c H locs ls hR C hl hH hS
  exact va_instE C.1 C.2.1 C.2.2.2.2.1 (C.2.2.2.2.2.1 _ hq) (sk_recv k C.2.2.2.2.2.2.2.2.1.2.2.2.2.2.2.2 hH hS) hd (kk l G sg R p e s m args below meth c H locs ls hR C hl hH hS)
theorem r_castK {J : Jb} {ce sl pc : Nat} {lv : List (Option Value)} {st : List Value} {h : AHp} {index i n : Nat} {b : List Int32} {hv : Int32} (k : Sk i n b hv) (hq : Cond.classLink J.1.1.cls index "java/lang/String" ∈ lw_all) (hd : decode J.1.2.1 pc = .ok (.checkcast index, 3)) (kk : Rch J ce sl (pc + 3) lv (.ref (8 * (i + 1) + 4) :: st) h) : Rch J ce sl pc lv (.ref (8 * (i + 1) + 4) :: st) h := by
  intro l G sg R p e s m args below meth c H locs ls hR C hl hH hS
  exact va_castE C.1 C.2.1 C.2.2.2.2.1 (C.2.2.2.2.2.1 _ hq) (sk_recv k C.2.2.2.2.2.2.2.2.1.2.2.2.2.2.2.2 hH hS) hd (kk l G sg R p e s m args below meth c H locs ls hR C hl hH hS)
/-- a constant is loaded -/
theorem r_ldcS {J : Jb} {ce sl pc : Nat} {lv : List (Option Value)} {st : List Value} {h : AHp} {index : Nat} {tx : String} (i : Nat) (pth : List Bool) (hi : strT[i]? = some (Term.string J.1.1.cls index)) (hp : aP pth narrow_1 = .exactly (Term.string J.1.1.cls index) "java/lang/String") (hr : Cond.stringRef J.1.1.cls index tx ∈ lw_tbl) (hd : decode J.1.2.1 pc = .ok (.ldc index, 2)) (kk : Rch J ce sl (pc + 2) lv (.ref (8 * (i + 1) + 4) :: st) h) : Rch J ce sl pc lv st h := by
  intro l G sg R p e s m args below meth c H locs ls hR C hl hH hS
  have ho : Old G s s.heap := C.2.2.2.2.2.2.2.2.1.2.2.2.2.2.2.2
  obtain ⟨a, c9, cA, kA, q1, -⟩ := Cond.exactly_spec (args := G.2.2.2.2.2.2.2) (first := G.2.2.2.2.2.2.1) (o := none) (s := G.2.2.2.2.2.2.1) (idx := []) (t := Term.string J.1.1.cls index) (cls := "java/lang/String") (nar ho.2.2.2 pth hp)
  have e1 : sg (8 * (i + 1) + 4) = a := by rw [hH.2.2.2.2 (i + 1)]; exact ho.2.2.2.2.2.2.1 i _ a hi q1
  have k2 := kk l G sg R p e s m args below meth c H locs ls hR C hl hH hS
  refine va_ldcS (tx := tx) (q := a) C.1 C.2.1 C.2.2.2.2.1 (vk_R.warm ho.1 (vk_R.of (ho.2.2.2.1 _ hr) q1)) hd ?_
  have e2 : rv sg (.ref (8 * (i + 1) + 4)) = .ref a := by show Value.ref (sg (8 * (i + 1) + 4)) = _; rw [e1]
  simp only [List.map_cons, e2] at k2
  exact k2
/-- a method of String's, of a constant -/
theorem r_callK {J : Jb} {ce sl pc : Nat} {lv : List (Option Value)} {st : List Value} {h : AHp} {M : MI} {d mc ms nn index : Nat} {as : List Value} {i n : Nat} {b : List Int32} {hv : Int32} (ok : MkV M nn) (k : Sk i n b hv) (hcn : M.1.cls = "java/lang/String") (hq : Cond.methodLink J.1.1.cls index M.1 ∈ lw_all) (hd : decode J.1.2.1 pc = .ok (.invokevirtual index, 3)) (hdp : d + 1 ≤ J.2.1) (hn : as.length = nn) (hcat : (st.map fun v => v.category).sum ≤ 8) (hc : ce + mc ≤ J.2.2.1) (hs : sl + ms ≤ J.2.2.2.1) (hM : AMet M d mc ms (.ref (8 * (i + 1) + 4) :: as) h (fun r h' => Rch J (ce + mc) (sl + ms) (pc + 3) lv (r.toList ++ st) h')) : Rch J ce sl pc lv (as.reverse ++ .ref (8 * (i + 1) + 4) :: st) h := by
  intro l G sg R p e s m args below meth c H locs ls hR C hl hH hS
  have hrc := sk_recv k C.2.2.2.2.2.2.2.2.1.2.2.2.2.2.2.2 hH hS
  rw [← hcn] at hrc
  refine Rch.back (st := st) (a := (Value.ref (sg (8 * (i + 1) + 4)) :: as.map (rv sg)).toArray) (mc := mc) (ms := ms) hR C hl hS ?_
  exact va_runV (As := as.map (rv sg)) (rest := st.map (rv sg)) ⟨C.1, C.2.1, C.2.2.2.1, C.2.2.2.2.1, C.2.2.2.2.2.1⟩ (hM l G sg C.2.2.2.2.2.2.2.2.2.2.2) (cwV nn C.2.2.2.2.2.1 (lw_V hq ok.2.1 ok.2.2 ok.1.2.1 ok.1.1) rfl rfl rfl ⟨rfl, ok.1.2.2.1⟩ (rmD_fits hR hdp ok.1.2.2.2)) ⟨Pm.blind, hrc, fun U hU hW => ⟨rfl, C.2.2.2.2.2.2.2.2.1.next hW C.2.2.2.2.2.2.2.2.2.1 (by rw [hU]; exact hS), by rw [hU]; exact hH.2.2.1, by rw [hU]; exact hH⟩⟩ rfl (by simpa using hn) hl.1 (by simp [rv]) (lv_room (by rw [cat_map]; exact hcat)) hd ⟨Nat.le_trans hc hR.2.2.1, Nat.le_trans hs hR.2.2.2⟩
/-- a static that is an int known from the start -/
theorem r_getsC {J : Jb} {ce sl pc : Nat} {lv : List (Option Value)} {st : List Value} {h : AHp} {C0 n d : String} {v : Int32} {index : Nat} (pth : List Bool) (hp : aP pth narrow_1 = .eq (.static C0 n d) (.int v)) (hl : Cond.laysStatic C0 n d ∈ lw_tbl) (hini : Cond.initialized C0 ∈ lw_tbl) (hq : Cond.fieldLink J.1.1.cls index C0 n d ∈ lw_all) (hd : decode J.1.2.1 pc = .ok (.getstatic index, 3)) (k1 : Rch J ce sl (pc + 3) lv (.int v :: st) h) : Rch J ce sl pc lv st h := by
  intro l G sg R p e s m args below meth c H locs ls hR C hl2 hH hS
  have ho : Old G s s.heap := C.2.2.2.2.2.2.2.2.1.2.2.2.2.2.2.2
  have hA : ∀ a : Nat, a < G.2.2.2.2.2.2.1.heap.size → ¬ gA G a := fun a ha h => by
    have h : G.2.2.1 ≤ a := h
    rw [ho.2.1] at ha
    omega
  have hz : va_Z C0 n d (.int v) (gA G) s s.heap := ((va_Zof (ho.2.2.2.1 _ hl) (ho.2.2.2.1 _ hini) (va_eqt (nar ho.2.2.2 pth hp)) hA).moved ho.1.alike).kept (fun a ha _ => ho.2.2.1 a (by rw [← ho.2.1]; exact ha))
  exact va_gets C.1 C.2.1 hz hS C.2.2.2.2.1 (C.2.2.2.2.2.1 _ hq) (fun x hx => hx) hd (k1 l G sg R p e s m args below meth c H locs ls hR C hl2 hH hS)
theorem r_acmpSame {J : Jb} {ce sl pc : Nat} {lv : List (Option Value)} {st : List Value} {h : AHp} {a : Nat} {off : Int} (hd : decode J.1.2.1 pc = .ok (.if_acmp .ne off, 3)) (ht : 0 ≤ (pc : Int) + off) (kk : Rch J ce sl (pc + 3) lv st h) : Rch J ce sl pc lv (.ref a :: .ref a :: st) h := by
  intro l G sg R p e s m args below meth c H locs ls hR C hl hH hS
  exact lv_acmp_ne (rx := some (sg a)) (ry := some (sg a)) (tgt := ((pc : Int) + off).toNat) C.1 C.2.1 hd (by omega) (fun hn => absurd rfl hn) (fun _ => kk l G sg R p e s m args below meth c H locs ls hR C hl hH hS)
theorem r_acmpDK {J : Jb} {ce sl pc : Nat} {lv : List (Option Value)} {st : List Value} {h : AHp} {a i n : Nat} {b : List Int32} {hv : Int32} {ca : AC} {off : Int} (tgt : Nat) (k : Sk i n b hv) (hd : decode J.1.2.1 pc = .ok (.if_acmp .ne off, 3)) (ht : (pc : Int) + off = (tgt : Int)) (hg : aGet h a = some ca) (hk : kn ca = true) (kk : Rch J ce sl tgt lv st h) : Rch J ce sl pc lv (.ref (8 * (i + 1) + 4) :: .ref a :: st) h := by
  intro l G sg R p e s m args below meth c H locs ls hR C hl hH hS
  obtain ⟨q0, e1, -⟩ := wso_at (G := G) (sg := sg) hk hg
  have h1 : gA G (sg a) := hH.2.1.2 q0 _ e1
  obtain ⟨cell, -, -, -, h2⟩ := (k G s C.2.2.2.2.2.2.2.2.1.2.2.2.2.2.2.2).1
  rw [← hH.2.2.2.2 (i + 1)] at h2
  exact lv_acmp_ne (rx := some (sg a)) (ry := some (sg (8 * (i + 1) + 4))) (tgt := tgt) C.1 C.2.1 hd ht (fun _ => kk l G sg R p e s m args below meth c H locs ls hR C hl hH hS) (fun he => absurd (by rw [← Option.some.inj he]; exact h1) h2)
/-- a byte array's clone -/
theorem r_cloneB {J : Jb} {ce sl pc : Nat} {lv : List (Option Value)} {st : List Value} {h : AHp} {index a n : Nat} {f : Nat → Int32} (hq : Cond.methodLink J.1.1.cls index ⟨"[B", "clone", "()Ljava/lang/Object;"⟩ ∈ lw_all) (hsame : Cond.sameMethod "[B" "java/lang/Object" "clone" "()Ljava/lang/Object;" ∈ lw_all) (hnat : Cond.native ⟨"java/lang/Object", "clone", "()Ljava/lang/Object;"⟩ ∈ lw_all) (hinst : Cond.instanceMethod ⟨"java/lang/Object", "clone", "()Ljava/lang/Object;"⟩ ∈ lw_all) (hsel : Cond.selects "[B" ⟨"[B", "clone", "()Ljava/lang/Object;"⟩ ⟨"java/lang/Object", "clone", "()Ljava/lang/Object;"⟩ ∈ lw_all) (hcs : Cond.castable "[B" "java/lang/Cloneable" ∈ lw_tbl) (hd : decode J.1.2.1 pc = .ok (.invokevirtual index, 3)) (hg : aGet h a = some (.inl (.byte, n, .inl f))) (hf : ∀ j, j < n → fits .byte (.int (f j)) = true) (hcat : (st.map fun v => v.category).sum ≤ 8) (hc : ce + 1 ≤ J.2.2.1) (hs : sl + n ≤ J.2.2.2.1) (kk : Rch J (ce + 1) (sl + n) (pc + 3) lv (.ref (aNew h) :: st) (aPush h (.inl (.byte, n, .inl f)))) : Rch J ce sl pc lv (.ref a :: st) h := by
  intro l G sg R p e s m args below meth c H locs ls hR C hl hH hS
  obtain ⟨q0, e1, -⟩ := wso_at (G := G) (sg := sg) rfl hg
  have hts := C.2.2.2.2.2.1
  have ho : Old G s s.heap := C.2.2.2.2.2.2.2.2.1.2.2.2.2.2.2.2
  have hnm : s.vm.findClass "[B" = some (G.2.1 .byte) := by rw [ho.1.alike.findClass]; exact ho.2.2.2.2.2.2.2 ("[B", .byte) (by simp [arrL])
  have hK := C.2.2.2.2.2.2.2.2.1.1
  have hcell : H[sg a]? = some (vp_cell (G.2.1 .byte) (n, .inl f)) := hH.1 q0 _ e1
  obtain ⟨c0, t0', f1, f2, f3⟩ := Cond.castable_spec (va_Nw.use (A := args) rfl (cs_at hcs C))
  cases hnm.symm.trans f1
  have hml : ls.size = c.maxLocals := by rw [hl.1]; exact C.2.2.2.1.symm
  intro T hT X
  obtain ⟨-, kA, hkA, comp, hkind⟩ := State.isArrayOf_alike X.warmed.alike ((hK.2 2 _ rfl).1 0 (fun _ => .null))
  obtain ⟨-, kS, hkS, compS, hkindS⟩ := (hK.2 2 _ rfl).1 0 (fun _ => .null)
  have hsz : (vp_cell (G.2.1 .byte) (n, .inl f)).slots.size = n := arrV_size _ _ _
  obtain ⟨vm', X', st9⟩ := X.cloneArray C.1 C.2.2.2.2.1 (hts _ hq) (hts _ hsame) (hts _ hnat) (hts _ hinst) (hts _ hsel) (a := sg a) (cell := vp_cell (G.2.1 .byte) (n, .inl f)) (by rw [hT]; exact hcell) (fun k h => by cases h) (by intro h; cases h) hnm f2 f3
    (fun i v hv => by
      have hk' : T.vm.classes[G.2.1 .byte]? = some kA := hkA
      rw [show (vp_cell (G.2.1 .byte) (n, .inl f)).cls = G.2.1 .byte from rfl]
      simpa [State.fitsSlot, State.slotType?, hk', hkind] using va_fit (F := fun j => .int (f j)) (ty := .byte) hf i v hv)
    (g := F0 m pc ls (.ref (sg a) :: st.map (rv sg))) rfl hml rfl (by rw [C.2.1]; exact hd) (by have := hR.1; omega) (by show 2 * 0 + _ + 14 ≤ _; have := hR.2.1; rw [cat_map]; omega) (Nat.le_trans hc hR.2.2.1) (by rw [hsz]; exact Nat.le_trans hs hR.2.2.2) (hloader := Vm.clonesLoader_of_array hkS hkindS)
  have hcellE : ({ cls := (vp_cell (G.2.1 .byte) (n, .inl f)).cls, slots := (vp_cell (G.2.1 .byte) (n, .inl f)).slots } : Cell) = vp_cell (G.2.1 .byte) (n, .inl f) := rfl
  rw [hcellE, hsz] at X'
  generalize hH1 : H.push (vp_cell (G.2.1 .byte) (n, .inl f)) = H1
  have z1 : H1.size = H.size + 1 := by rw [← hH1, Array.size_push]
  have e2 : H1[H.size]? = some (vp_cell (G.2.1 .byte) (n, .inl f)) := by rw [← hH1, Array.getElem?_push_size]
  have o1 : ∀ q : Nat, q < H.size → H1[q]? = H[q]? := fun q hq => by rw [← hH1, Array.getElem?_push, if_neg (Nat.ne_of_lt hq)]
  obtain ⟨hH2, hn2⟩ := hH.push (c := .inl (.byte, n, .inl f)) rfl e2 z1 o1
  obtain ⟨t, b1, b2⟩ := kk l G sg R p e s m args below meth c H1 locs ls hR C hl hH2 (vaS_new hS z1 o1) ((T.setVm vm').pushCell (vp_cell (G.2.1 .byte) (n, .inl f))) (by rw [← hH1, ← hT]; rfl) X'
  refine ⟨t, st9 t ?_, b2⟩
  rw [hcellE, hT]
  have e3 : rv sg (.ref (aNew h)) = .ref H.size := by show Value.ref (sg (aNew h)) = _; rw [hn2]
  simp only [List.map_cons, e3] at b1
  exact b1
