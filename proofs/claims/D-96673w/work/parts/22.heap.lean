set_option maxRecDepth 100000
/-! heap rows (printed by gen/heap.py) -/
/-- what a class's fields ask -/
def FB (ci : Nat) (C : String) (T : u_T) (N : Nat) (ty : Nat → FieldType) : Prop := vCl[ci]? = some (C, T, N) ∧ (∀ w ∈ u_ws C T N, w ∈ lw_all) ∧ (∀ k, k < N → parseFieldDescriptor (T k).2.2.1 = some (ty k)) ∧ (∀ a, a < N → ∀ b, b < N → a ≠ b → (T a).2.1 ≠ (T b).2.1) ∧ (ci != 99) = true
theorem rv_narrow (sg : Nat → Nat) {ty : FieldType} {v : Value} (h : narrow ty v = v) : narrow ty (rv sg v) = rv sg v := by
  cases v <;> first | exact h | (cases ty <;> rfl)
theorem rv_fits (sg : Nat → Nat) {ty : FieldType} {v : Value} (h : fits ty v = true) : fits ty (rv sg v) = true := by
  cases v <;> first | exact h | (cases ty <;> first | rfl | exact h)
theorem aSet_len (h : AHp) (a : Nat) (c : AC) : (aSet h a c).2.2.2.length = h.2.2.2.length := by
  unfold aSet
  split <;> simp
/-- one cell is written -/
theorem Hd.set {G : GX} {sg : Nat → Nat} {h : AHp} {a : Nat} {c c' : AC} {H H1 : Heap} (hH : Hd G sg h H) (hk : kn c = true) (hk' : kn c' = true) (hg : aGet h a = some c) (ha : va_at G.1 vCl (sg a, ae G sg c') H1) (hz : H1.size = H.size) (ho : ∀ q : Nat, q ≠ sg a → H1[q]? = H[q]?) : Hd G sg (aSet h a c') H1 ∧ gA G (sg a) := by
  obtain ⟨q0, e1, e2⟩ := wso_at (G := G) (sg := sg) hk hg
  have h1 := hH.1.set hH.2.1 e1 ha ho
  have h2 := va_D.set (e := ae G sg c') hH.2.1 e1
  rw [e2 c' hk'] at h1 h2
  exact ⟨⟨h1, h2, by rw [hz]; exact hH.2.2.1, fun i => by rw [hz, aSet_len]; exact hH.2.2.2.1 i, hH.2.2.2.2⟩, hH.2.1.2 q0 _ e1⟩
theorem Hd.at {G : GX} {sg : Nat → Nat} {h : AHp} {a : Nat} {c : AC} {H : Heap} (hH : Hd G sg h H) (hk : kn c = true) (hg : aGet h a = some c) : va_at G.1 vCl (sg a, ae G sg c) H := by
  obtain ⟨q0, e1, -⟩ := wso_at (G := G) (sg := sg) hk hg
  exact hH.1 q0 _ e1
/-- a cell is made -/
theorem Hd.push {G : GX} {sg : Nat → Nat} {h : AHp} {c : AC} {H H1 : Heap} (hH : Hd G sg h H) (hk : kn c = true) (ha : va_at G.1 vCl (H.size, ae G sg c) H1) (hz : H1.size = H.size + 1) (ho : ∀ q : Nat, q < H.size → H1[q]? = H[q]?) : Hd G sg (aPush h c) H1 ∧ sg (aNew h) = H.size := by
  have hs : sg (aNew h) = H.size := by
    have := hH.2.2.2.1 0
    simpa [aNew] using this
  refine ⟨⟨?_, ?_, by rw [hz]; exact Nat.le_succ_of_le hH.2.2.1, fun i => ?_, hH.2.2.2.2⟩, hs⟩
  · rw [wso_push hk]
    refine (hH.1.kept (fun k x hx => ho x.1 ((hH.1 k x hx).lt))).app (fun k x hx => ?_)
    have hz : k < 1 := (List.getElem?_eq_some_iff.mp hx).1
    rw [show k = 0 by omega] at hx
    cases hx
    rw [hs]
    exact ha
  · rw [wso_push hk, hs]
    exact hH.2.1.push hH.1 rfl (show G.2.2.1 ≤ H.size from hH.2.2.1)
  · have h1 := hH.2.2.2.1 (i + 1)
    rw [hz, show H.size + 1 + i = H.size + (i + 1) by omega, ← h1]
    simp [aPush]
    congr 2
    omega
theorem vaS_new {A : Nat → Prop} {H0 H H1 : Heap} {locs : List Loc} (h : va_S A H0 H locs) (hz : H1.size = H.size + 1) (ho : ∀ q : Nat, q < H.size → H1[q]? = H[q]?) : va_S A H0 H1 locs :=
  ⟨Nat.le_trans h.1 (by omega), fun x h1 h2 => (ho x (Nat.lt_of_lt_of_le h1 h.1)).trans (h.2.1 x h1 h2), h.2.2⟩
theorem r_get {J : Jb} {ce sl pc : Nat} {lv : List (Option Value)} {st : List Value} {h : AHp} {ci N index a : Nat} {Cn : String} {T : u_T} {ty : Nat → FieldType} {fs : List Value} {v : Value} (b : FB ci Cn T N ty) (k : Nat) (hk : k < N) (hq : Cond.fieldLink J.1.1.cls index (T k).1 (T k).2.1 (T k).2.2.1 ∈ lw_all) (hd : decode J.1.2.1 pc = .ok (.getfield index, 3)) (hg : aGet h a = some (.inr (ci, fs))) (hv : fs[k]? = some v) (kk : Rch J ce sl (pc + 3) lv (v :: st) h) : Rch J ce sl pc lv (.ref a :: st) h := by
  intro l G sg R p e s m args below meth c H locs ls hR C hl hH hS
  obtain ⟨q0, e1, -⟩ := wso_at (G := G) (sg := sg) (show kn (.inr (ci, fs)) = true from b.2.2.2.2) hg
  exact va_get C.1 C.2.1 C.2.2.2.2.2.1 b.2.1 C.2.2.2.2.1 C.2.2.2.2.2.2.2.2.1.1 hH.1 q0 e1 b.1 k hk (C.2.2.2.2.2.1 _ hq) (fun _ z => z) (by simp [hv]) hd (kk l G sg R p e s m args below meth c H locs ls hR C hl hH hS)
theorem r_getS {J : Jb} {ce sl pc : Nat} {lv : List (Option Value)} {st : List Value} {h : AHp} {ci N index a : Nat} {Cn ref : String} {T : u_T} {ty : Nat → FieldType} {fs : List Value} {v : Value} (b : FB ci Cn T N ty) (k : Nat) (hk : k < N) (hq : Cond.fieldLink J.1.1.cls index ref (T k).2.1 (T k).2.2.1 ∈ lw_all) (hs : Cond.sameField ref (T k).1 (T k).2.1 (T k).2.2.1 ∈ lw_all) (hd : decode J.1.2.1 pc = .ok (.getfield index, 3)) (hg : aGet h a = some (.inr (ci, fs))) (hv : fs[k]? = some v) (kk : Rch J ce sl (pc + 3) lv (v :: st) h) : Rch J ce sl pc lv (.ref a :: st) h := by
  intro l G sg R p e s m args below meth c H locs ls hR C hl hH hS
  obtain ⟨q0, e1, -⟩ := wso_at (G := G) (sg := sg) (show kn (.inr (ci, fs)) = true from b.2.2.2.2) hg
  exact va_get C.1 C.2.1 C.2.2.2.2.2.1 b.2.1 C.2.2.2.2.1 C.2.2.2.2.2.2.2.2.1.1 hH.1 q0 e1 b.1 k hk (C.2.2.2.2.2.1 _ hq) (u_same (C.2.2.2.2.2.1 _ hs)) (by simp [hv]) hd (kk l G sg R p e s m args below meth c H locs ls hR C hl hH hS)
theorem r_put {J : Jb} {ce sl pc : Nat} {lv : List (Option Value)} {st : List Value} {h : AHp} {ci N index a : Nat} {Cn : String} {T : u_T} {ty : Nat → FieldType} {fs : List Value} {v : Value} (b : FB ci Cn T N ty) (k : Nat) (hk : k < N) (hf : (T k).2.2.2 = false) (hq : Cond.fieldLink J.1.1.cls index (T k).1 (T k).2.1 (T k).2.2.1 ∈ lw_all) (hd : decode J.1.2.1 pc = .ok (.putfield index, 3)) (hn : narrow (ty k) v = v) (hft : fits (ty k) v = true) (hg : aGet h a = some (.inr (ci, fs))) (hlen : k < fs.length) (kk : Rch J ce sl (pc + 3) lv st (aSet h a (.inr (ci, fs.set k v)))) : Rch J ce sl pc lv (v :: .ref a :: st) h := by
  intro l G sg R p e s m args below meth c H locs ls hR C hl hH hS
  have hkn : kn (.inr (ci, fs)) = true := b.2.2.2.2
  have hkn' : kn (.inr (ci, fs.set k v)) = true := b.2.2.2.2
  have hts := C.2.2.2.2.2.1
  have hap := va_apart (own := J.1.1.cls) hts b.2.1 ty b.2.2.1 b.2.2.2.1 C.2.2.2.2.2.2.2.2.1.1 b.1
  obtain ⟨r, h1, cell, q1, q2, q3, q4⟩ := hH.at hkn hg
  obtain rfl : r = (Cn, T, N) := Option.some.inj (h1.symm.trans b.1)
  obtain ⟨hSl, hfc, kC, hkC, hkind⟩ := C.2.2.2.2.2.2.2.2.1.1.1 ci _ b.1
  obtain ⟨cf, kf, fi, f, hi0, hsl⟩ := hSl k hk
  have hlay := hts _ (b.2.1 _ (u_in_lay hk))
  unfold u_lay at hlay
  have hst := (u_facts hfc hkC (u_lays hts b.2.1 hk) hi0).1
  rw [if_neg (by rw [hf]; decide)] at hlay
  have h6 := u_store hfc hkC hkind hlay hi0 (b.2.2.1 k hk) (rv_narrow sg hn) (rv_fits sg hft)
  refine W.putK C.1 C.2.1 (f := f) ⟨C.2.2.2.2.1, hts _ hq, ⟨_, _, _, hi0⟩, hst⟩ (by rw [q2]; exact h6) q1 q3 (by rw [hsl]; exact k2_hasslot (q4 k hk)) rfl rfl hd fun H1 e1 e2 e3 => ?_
  rw [hsl] at e1 ⊢
  obtain ⟨hH1, hA⟩ := hH.set (c' := .inr (ci, fs.set k v)) hkn hkn' hg ⟨_, b.1, t_OB.to (V := updV (vp_V (fs.map (rv sg))) k (rv sg v)) ⟨_, e1, q2, q3, t_set q4 hap hk (rv sg v)⟩ (fun j _ => by
    rw [vp_updV_set (by simpa using hlen), List.map_set])⟩ e2 e3
  exact kk l G sg R p e s m args below meth c H1 _ ls hR C hl hH1 (hS.put e2 e3 hA)
theorem r_putF {J : Jb} {ce sl pc : Nat} {lv : List (Option Value)} {st : List Value} {h : AHp} {ci N index a : Nat} {Cn : String} {T : u_T} {ty : Nat → FieldType} {fs : List Value} {v : Value} (b : FB ci Cn T N ty) (k : Nat) (hk : k < N) (hf : (T k).2.2.2 = true) (hi : J.1.1.name = "<init>") (hdc : (T k).1 = J.1.1.cls) (hq : Cond.fieldLink J.1.1.cls index (T k).1 (T k).2.1 (T k).2.2.1 ∈ lw_all) (hd : decode J.1.2.1 pc = .ok (.putfield index, 3)) (hn : narrow (ty k) v = v) (hft : fits (ty k) v = true) (hg : aGet h a = some (.inr (ci, fs))) (hlen : k < fs.length) (kk : Rch J ce sl (pc + 3) lv st (aSet h a (.inr (ci, fs.set k v)))) : Rch J ce sl pc lv (v :: .ref a :: st) h := by
  intro l G sg R p e s m args below meth c H locs ls hR C hl hH hS
  have hkn : kn (.inr (ci, fs)) = true := b.2.2.2.2
  have hkn' : kn (.inr (ci, fs.set k v)) = true := b.2.2.2.2
  have hts := C.2.2.2.2.2.1
  have hap := va_apart (own := J.1.1.cls) hts b.2.1 ty b.2.2.1 b.2.2.2.1 C.2.2.2.2.2.2.2.2.1.1 b.1
  obtain ⟨r, h1, cell, q1, q2, q3, q4⟩ := hH.at hkn hg
  obtain rfl : r = (Cn, T, N) := Option.some.inj (h1.symm.trans b.1)
  obtain ⟨hSl, hfc, kC, hkC, hkind⟩ := C.2.2.2.2.2.2.2.2.1.1.1 ci _ b.1
  obtain ⟨cf, kf, fi, f, hi0, hsl⟩ := hSl k hk
  have hlay := hts _ (b.2.1 _ (u_in_lay hk))
  unfold u_lay at hlay
  have hst := (u_facts hfc hkC (u_lays hts b.2.1 hk) hi0).1
  rw [if_pos hf] at hlay
  have hcf : m.cls = cf := by
    obtain ⟨_, _, c', _, _, _, -, -, hf', -, -, -, hown2, -⟩ := Cond.laysFinal_spec hlay
    have e1 : c' = cf := by have := hi0.symm.trans hf'; simp at this; exact this.1.symm
    rw [hdc] at hown2
    rw [← e1]; exact Option.some.inj (C.2.2.2.2.1.symm.trans hown2)
  have h6 := u_fits hfc hkC hkind (Or.inr hlay) hi0 (b.2.2.1 k hk) (rv_narrow sg hn) (rv_fits sg hft)
  refine W.putFinK C.1 C.2.1 C.2.2.2.2.1 (hts _ hq) hi0 hst hcf (C.2.2.2.2.2.2.2.1.trans hi) (by rw [q2]; exact h6) q1 q3 (by rw [hsl]; exact k2_hasslot (q4 k hk)) rfl rfl hd fun H1 e1 e2 e3 => ?_
  rw [hsl] at e1 ⊢
  obtain ⟨hH1, hA⟩ := hH.set (c' := .inr (ci, fs.set k v)) hkn hkn' hg ⟨_, b.1, t_OB.to (V := updV (vp_V (fs.map (rv sg))) k (rv sg v)) ⟨_, e1, q2, q3, t_set q4 hap hk (rv sg v)⟩ (fun j _ => by
    rw [vp_updV_set (by simpa using hlen), List.map_set])⟩ e2 e3
  exact kk l G sg R p e s m args below meth c H1 _ ls hR C hl hH1 (hS.put e2 e3 hA)
theorem r_iald {J : Jb} {ce sl pc : Nat} {lv : List (Option Value)} {st : List Value} {h : AHp} {a n : Nat} {f : Nat → Int32} {i : Int32} (hd : decode J.1.2.1 pc = .ok (.iaload, 1)) (hg : aGet h a = some (.inl (.int, n, .inl f))) (hi : vp_in i n) (kk : Rch J ce sl (pc + 1) lv (.int (f i.toNatClampNeg) :: st) h) : Rch J ce sl pc lv (.int i :: .ref a :: st) h := by
  intro l G sg R p e s m args below meth c H locs ls hR C hl hH hS
  obtain ⟨q0, e1, -⟩ := wso_at (G := G) (sg := sg) rfl hg
  exact va_iald C.1 C.2.1 C.2.2.2.2.2.2.2.2.1.1 hH.1 q0 0 e1 rfl hi hd (kk l G sg R p e s m args below meth c H locs ls hR C hl hH hS)
theorem r_bald {J : Jb} {ce sl pc : Nat} {lv : List (Option Value)} {st : List Value} {h : AHp} {a n : Nat} {f : Nat → Int32} {i : Int32} (hd : decode J.1.2.1 pc = .ok (.baload, 1)) (hg : aGet h a = some (.inl (.byte, n, .inl f))) (hi : vp_in i n) (kk : Rch J ce sl (pc + 1) lv (.int (f i.toNatClampNeg) :: st) h) : Rch J ce sl pc lv (.int i :: .ref a :: st) h := by
  intro l G sg R p e s m args below meth c H locs ls hR C hl hH hS
  obtain ⟨q0, e1, -⟩ := wso_at (G := G) (sg := sg) rfl hg
  exact va_bald C.1 C.2.1 C.2.2.2.2.2.2.2.2.1.1 hH.1 q0 2 e1 rfl hi hd (kk l G sg R p e s m args below meth c H locs ls hR C hl hH hS)
theorem r_zald {J : Jb} {ce sl pc : Nat} {lv : List (Option Value)} {st : List Value} {h : AHp} {a n : Nat} {f : Nat → Int32} {i : Int32} (hd : decode J.1.2.1 pc = .ok (.baload, 1)) (hg : aGet h a = some (.inl (.boolean, n, .inl f))) (hi : vp_in i n) (kk : Rch J ce sl (pc + 1) lv (.int (f i.toNatClampNeg) :: st) h) : Rch J ce sl pc lv (.int i :: .ref a :: st) h := by
  intro l G sg R p e s m args below meth c H locs ls hR C hl hH hS
  obtain ⟨q0, e1, -⟩ := wso_at (G := G) (sg := sg) rfl hg
  exact va_zald C.1 C.2.1 C.2.2.2.2.2.2.2.2.1.1 hH.1 q0 4 e1 rfl hi hd (kk l G sg R p e s m args below meth c H locs ls hR C hl hH hS)
theorem r_sald {J : Jb} {ce sl pc : Nat} {lv : List (Option Value)} {st : List Value} {h : AHp} {a n : Nat} {f : Nat → Int32} {i : Int32} (hd : decode J.1.2.1 pc = .ok (.saload, 1)) (hg : aGet h a = some (.inl (.short, n, .inl f))) (hi : vp_in i n) (kk : Rch J ce sl (pc + 1) lv (.int (f i.toNatClampNeg) :: st) h) : Rch J ce sl pc lv (.int i :: .ref a :: st) h := by
  intro l G sg R p e s m args below meth c H locs ls hR C hl hH hS
  obtain ⟨q0, e1, -⟩ := wso_at (G := G) (sg := sg) rfl hg
  exact va_sald C.1 C.2.1 C.2.2.2.2.2.2.2.2.1.1 hH.1 q0 3 e1 rfl hi hd (kk l G sg R p e s m args below meth c H locs ls hR C hl hH hS)
theorem r_lald {J : Jb} {ce sl pc : Nat} {lv : List (Option Value)} {st : List Value} {h : AHp} {a n : Nat} {f : Nat → Int64} {i : Int32} (hd : decode J.1.2.1 pc = .ok (.laload, 1)) (hg : aGet h a = some (.inl (.long, n, .inr (.inl f)))) (hi : vp_in i n) (kk : Rch J ce sl (pc + 1) lv (.long (f i.toNatClampNeg) :: st) h) : Rch J ce sl pc lv (.int i :: .ref a :: st) h := by
  intro l G sg R p e s m args below meth c H locs ls hR C hl hH hS
  obtain ⟨q0, e1, -⟩ := wso_at (G := G) (sg := sg) rfl hg
  exact va_lald C.1 C.2.1 C.2.2.2.2.2.2.2.2.1.1 hH.1 q0 1 e1 rfl hi hd (kk l G sg R p e s m args below meth c H locs ls hR C hl hH hS)
theorem r_aald_looker {J : Jb} {ce sl pc : Nat} {lv : List (Option Value)} {st : List Value} {h : AHp} {a n : Nat} {f : Nat → Option Nat} {i : Int32} (hd : decode J.1.2.1 pc = .ok (.aaload, 1)) (hg : aGet h a = some (.inl (.object "SeenInOrderOfAge$Looker", n, .inr (.inr (.inr (.inr f)))))) (hi : vp_in i n) (kk : Rch J ce sl (pc + 1) lv (va_rf (f i.toNatClampNeg) :: st) h) : Rch J ce sl pc lv (.int i :: .ref a :: st) h := by
  intro l G sg R p e s m args below meth c H locs ls hR C hl hH hS
  obtain ⟨q0, e1, -⟩ := wso_at (G := G) (sg := sg) rfl hg
  have k2 := kk l G sg R p e s m args below meth c H locs ls hR C hl hH hS
  refine va_aldq C.1 C.2.1 C.2.2.2.2.2.2.2.2.1.1 hH.1 q0 5 (C := "SeenInOrderOfAge$Looker") e1 rfl hi hd ?_
  have e2 : rv sg (va_rf (f i.toNatClampNeg)) = va_rf ((f i.toNatClampNeg).map sg) := by cases f i.toNatClampNeg <;> rfl
  rw [← e2]
  exact k2
theorem r_aald_sheet {J : Jb} {ce sl pc : Nat} {lv : List (Option Value)} {st : List Value} {h : AHp} {a n : Nat} {f : Nat → Option Nat} {i : Int32} (hd : decode J.1.2.1 pc = .ok (.aaload, 1)) (hg : aGet h a = some (.inl (.object "SeenInOrderOfAge$Sheet", n, .inr (.inr (.inr (.inr f)))))) (hi : vp_in i n) (kk : Rch J ce sl (pc + 1) lv (va_rf (f i.toNatClampNeg) :: st) h) : Rch J ce sl pc lv (.int i :: .ref a :: st) h := by
  intro l G sg R p e s m args below meth c H locs ls hR C hl hH hS
  obtain ⟨q0, e1, -⟩ := wso_at (G := G) (sg := sg) rfl hg
  have k2 := kk l G sg R p e s m args below meth c H locs ls hR C hl hH hS
  refine va_aldq C.1 C.2.1 C.2.2.2.2.2.2.2.2.1.1 hH.1 q0 6 (C := "SeenInOrderOfAge$Sheet") e1 rfl hi hd ?_
  have e2 : rv sg (va_rf (f i.toNatClampNeg)) = va_rf ((f i.toNatClampNeg).map sg) := by cases f i.toNatClampNeg <;> rfl
  rw [← e2]
  exact k2
theorem r_alen {J : Jb} {ce sl pc : Nat} {lv : List (Option Value)} {st : List Value} {h : AHp} {a n : Nat} {ty : FieldType} {x : (Nat → Int32) ⊕ (Nat → Int64) ⊕ (Nat → UInt32) ⊕ (Nat → UInt64) ⊕ (Nat → Option Nat)} (hd : decode J.1.2.1 pc = .ok (.arraylength, 1)) (hg : aGet h a = some (.inl (ty, n, x))) (t0 : Nat) (ht : tyL[t0]? = some ty) (kk : Rch J ce sl (pc + 1) lv (.int (Int32.ofNat n) :: st) h) : Rch J ce sl pc lv (.ref a :: st) h := by
  intro l G sg R p e s m args below meth c H locs ls hR C hl hH hS
  obtain ⟨q0, e1, -⟩ := wso_at (G := G) (sg := sg) rfl hg
  refine va_alen (v := Int32.ofNat n) (ty := ty) C.1 C.2.1 C.2.2.2.2.2.2.2.2.1.1 hH.1 q0 t0 e1 (by simp [gT, ht]) ?_ hd (kk l G sg R p e s m args below meth c H locs ls hR C hl hH hS)
  rcases x with x | x | x | x | x <;> rfl
theorem upd_V {α : Type} (mk : α → Value) (f : Nat → α) (k : Nat) (x : α) : updV (fun j => mk (f j)) k (mk x) = fun j => mk (if j = k then x else f j) := by
  funext j
  by_cases h : j = k <;> simp [updV, h]
theorem r_iast {J : Jb} {ce sl pc : Nat} {lv : List (Option Value)} {st : List Value} {h : AHp} {a n : Nat} {f : Nat → Int32} {i : Int32} {x : Int32} (hd : decode J.1.2.1 pc = .ok (.iastore, 1)) (hg : aGet h a = some (.inl (.int, n, .inl f))) (hi : vp_in i n) (kk : Rch J ce sl (pc + 1) lv st (aSet h a (.inl (.int, n, .inl (upd f i.toNatClampNeg x))))) : Rch J ce sl pc lv (.int x :: .int i :: .ref a :: st) h := by
  intro l G sg R p e s m args below meth c H locs ls hR C hl hH hS
  have hat : H[sg a]? = some (arrV (G.2.1 .int) n (fun j => .int (f j))) := hH.at (c := .inl (.int, n, .inl f)) rfl hg
  refine W.iast C.1 C.2.1 hat ((C.2.2.2.2.2.2.2.2.1.1.2 0 _ rfl).1 n _) (fun q => by cases q) (by rw [arrV_size]; exact hi) rfl rfl hd fun H1 e1 e2 e3 => ?_
  obtain ⟨hH1, hA⟩ := hH.set (c' := .inl (.int, n, .inl (upd f i.toNatClampNeg x))) rfl rfl hg (by
    show H1[sg a]? = some (arrV (G.2.1 .int) n (fun j => .int ((upd f i.toNatClampNeg x) j)))
    rw [e1, arrV_store]
    exact congrArg (fun z => some (arrV (G.2.1 .int) n z)) (upd_V (fun z => .int z) f i.toNatClampNeg x)) e2 e3
  exact kk l G sg R p e s m args below meth c H1 _ ls hR C hl hH1 (hS.put e2 e3 hA)
theorem r_bast {J : Jb} {ce sl pc : Nat} {lv : List (Option Value)} {st : List Value} {h : AHp} {a n : Nat} {f : Nat → Int32} {i : Int32} {x : Int32} (hd : decode J.1.2.1 pc = .ok (.bastore, 1)) (hg : aGet h a = some (.inl (.byte, n, .inl f))) (hi : vp_in i n) (kk : Rch J ce sl (pc + 1) lv st (aSet h a (.inl (.byte, n, .inl (upd f i.toNatClampNeg (vp_nar .byte x)))))) : Rch J ce sl pc lv (.int x :: .int i :: .ref a :: st) h := by
  intro l G sg R p e s m args below meth c H locs ls hR C hl hH hS
  have hat : H[sg a]? = some (arrV (G.2.1 .byte) n (fun j => .int (f j))) := hH.at (c := .inl (.byte, n, .inl f)) rfl hg
  refine W.bast C.1 C.2.1 hat ((C.2.2.2.2.2.2.2.2.1.1.2 2 _ rfl).1 n _) (fun q => by cases q) (by rw [arrV_size]; exact hi) rfl rfl hd fun H1 e1 e2 e3 => ?_
  obtain ⟨hH1, hA⟩ := hH.set (c' := .inl (.byte, n, .inl (upd f i.toNatClampNeg (vp_nar .byte x)))) rfl rfl hg (by
    show H1[sg a]? = some (arrV (G.2.1 .byte) n (fun j => .int ((upd f i.toNatClampNeg (vp_nar .byte x)) j)))
    rw [e1, arrV_store]
    exact congrArg (fun z => some (arrV (G.2.1 .byte) n z)) (upd_V (fun z => .int z) f i.toNatClampNeg (vp_nar .byte x))) e2 e3
  exact kk l G sg R p e s m args below meth c H1 _ ls hR C hl hH1 (hS.put e2 e3 hA)
theorem r_zast {J : Jb} {ce sl pc : Nat} {lv : List (Option Value)} {st : List Value} {h : AHp} {a n : Nat} {f : Nat → Int32} {i : Int32} {x : Int32} (hd : decode J.1.2.1 pc = .ok (.bastore, 1)) (hg : aGet h a = some (.inl (.boolean, n, .inl f))) (hi : vp_in i n) (kk : Rch J ce sl (pc + 1) lv st (aSet h a (.inl (.boolean, n, .inl (upd f i.toNatClampNeg (vp_nar .boolean x)))))) : Rch J ce sl pc lv (.int x :: .int i :: .ref a :: st) h := by
  intro l G sg R p e s m args below meth c H locs ls hR C hl hH hS
  have hat : H[sg a]? = some (arrV (G.2.1 .boolean) n (fun j => .int (f j))) := hH.at (c := .inl (.boolean, n, .inl f)) rfl hg
  refine W.zast C.1 C.2.1 hat ((C.2.2.2.2.2.2.2.2.1.1.2 4 _ rfl).1 n _) (fun q => by cases q) (by rw [arrV_size]; exact hi) rfl rfl hd fun H1 e1 e2 e3 => ?_
  obtain ⟨hH1, hA⟩ := hH.set (c' := .inl (.boolean, n, .inl (upd f i.toNatClampNeg (vp_nar .boolean x)))) rfl rfl hg (by
    show H1[sg a]? = some (arrV (G.2.1 .boolean) n (fun j => .int ((upd f i.toNatClampNeg (vp_nar .boolean x)) j)))
    rw [e1, arrV_store]
    exact congrArg (fun z => some (arrV (G.2.1 .boolean) n z)) (upd_V (fun z => .int z) f i.toNatClampNeg (vp_nar .boolean x))) e2 e3
  exact kk l G sg R p e s m args below meth c H1 _ ls hR C hl hH1 (hS.put e2 e3 hA)
theorem r_sast {J : Jb} {ce sl pc : Nat} {lv : List (Option Value)} {st : List Value} {h : AHp} {a n : Nat} {f : Nat → Int32} {i : Int32} {x : Int32} (hd : decode J.1.2.1 pc = .ok (.sastore, 1)) (hg : aGet h a = some (.inl (.short, n, .inl f))) (hi : vp_in i n) (kk : Rch J ce sl (pc + 1) lv st (aSet h a (.inl (.short, n, .inl (upd f i.toNatClampNeg (vp_nar .short x)))))) : Rch J ce sl pc lv (.int x :: .int i :: .ref a :: st) h := by
  intro l G sg R p e s m args below meth c H locs ls hR C hl hH hS
  have hat : H[sg a]? = some (arrV (G.2.1 .short) n (fun j => .int (f j))) := hH.at (c := .inl (.short, n, .inl f)) rfl hg
  refine W.sast C.1 C.2.1 hat ((C.2.2.2.2.2.2.2.2.1.1.2 3 _ rfl).1 n _) (fun q => by cases q) (by rw [arrV_size]; exact hi) rfl rfl hd fun H1 e1 e2 e3 => ?_
  obtain ⟨hH1, hA⟩ := hH.set (c' := .inl (.short, n, .inl (upd f i.toNatClampNeg (vp_nar .short x)))) rfl rfl hg (by
    show H1[sg a]? = some (arrV (G.2.1 .short) n (fun j => .int ((upd f i.toNatClampNeg (vp_nar .short x)) j)))
    rw [e1, arrV_store]
    exact congrArg (fun z => some (arrV (G.2.1 .short) n z)) (upd_V (fun z => .int z) f i.toNatClampNeg (vp_nar .short x))) e2 e3
  exact kk l G sg R p e s m args below meth c H1 _ ls hR C hl hH1 (hS.put e2 e3 hA)
theorem r_last {J : Jb} {ce sl pc : Nat} {lv : List (Option Value)} {st : List Value} {h : AHp} {a n : Nat} {f : Nat → Int64} {i : Int32} {x : Int64} (hd : decode J.1.2.1 pc = .ok (.lastore, 1)) (hg : aGet h a = some (.inl (.long, n, .inr (.inl f)))) (hi : vp_in i n) (kk : Rch J ce sl (pc + 1) lv st (aSet h a (.inl (.long, n, .inr (.inl (vp_updL f i.toNatClampNeg x)))))) : Rch J ce sl pc lv (.long x :: .int i :: .ref a :: st) h := by
  intro l G sg R p e s m args below meth c H locs ls hR C hl hH hS
  have hat : H[sg a]? = some (arrV (G.2.1 .long) n (fun j => .long (f j))) := hH.at (c := .inl (.long, n, .inr (.inl f))) rfl hg
  refine W.last C.1 C.2.1 hat ((C.2.2.2.2.2.2.2.2.1.1.2 1 _ rfl).1 n _) (fun q => by cases q) (by rw [arrV_size]; exact hi) rfl rfl hd fun H1 e1 e2 e3 => ?_
  obtain ⟨hH1, hA⟩ := hH.set (c' := .inl (.long, n, .inr (.inl (vp_updL f i.toNatClampNeg x)))) rfl rfl hg (by
    show H1[sg a]? = some (arrV (G.2.1 .long) n (fun j => .long ((vp_updL f i.toNatClampNeg x) j)))
    rw [e1, arrV_store]
    exact congrArg (fun z => some (arrV (G.2.1 .long) n z)) (upd_V (fun z => .long z) f i.toNatClampNeg x)) e2 e3
  exact kk l G sg R p e s m args below meth c H1 _ ls hR C hl hH1 (hS.put e2 e3 hA)
theorem r_new {J : Jb} {ce sl pc : Nat} {lv : List (Option Value)} {st : List Value} {h : AHp} {ci N index : Nat} {Cn : String} {T : u_T} {ty : Nat → FieldType} (b : FB ci Cn T N ty) (fs : List Value) (hfs : ∀ j, j < N → defaultValue (ty j) = vp_V fs j) (hnr : ∀ sg, fs.map (rv sg) = fs) (hq : Cond.classLink J.1.1.cls index Cn ∈ lw_all) (hin : Cond.instantiable Cn N ∈ lw_all) (hini : Cond.initialized Cn ∈ lw_all) (hd : decode J.1.2.1 pc = .ok (.new index, 3)) (hc : ce + 1 ≤ J.2.2.1) (hs : sl + N ≤ J.2.2.2.1) (kk : Rch J (ce + 1) (sl + N) (pc + 3) lv (.ref (aNew h) :: st) (aPush h (.inr (ci, fs)))) : Rch J ce sl pc lv st h := by
  intro l G sg R p e s m args below meth c H locs ls hR C hl hH hS
  have hts := C.2.2.2.2.2.1
  have hKn := C.2.2.2.2.2.2.2.2.1.1.1 ci _ b.1
  refine W.newcK C.1 C.2.1 C.2.2.2.2.1 (hts _ hq) (hts _ hin) (hts _ hini) rfl hd (Nat.le_trans hc hR.2.2.1) (Nat.le_trans hs hR.2.2.2) hKn.2.1 rfl fun H1 kC hkC e1 z1 o1 => ?_
  obtain ⟨hH1, hn⟩ := hH.push (c := .inr (ci, fs)) b.2.2.2.2 ⟨_, b.1, (u_born ty hts b.2.1 hKn hkC e1 b.2.2.1).to (fun j hj => by rw [hnr]; exact hfs j hj)⟩ z1 o1
  have k2 := kk l G sg R p e s m args below meth c H1 locs ls hR C hl hH1 (vaS_new hS z1 o1)
  rw [← hn]
  exact k2
theorem r_newa_int {J : Jb} {ce sl pc : Nat} {lv : List (Option Value)} {st : List Value} {h : AHp} {n : Int32} (N : Nat) (hq : Cond.arrayClass .int ∈ lw_all) (hd : decode J.1.2.1 pc = .ok (.newarray .int, 2)) (hn : ¬ n < 0) (hN : n.toNatClampNeg = N) (hN2 : N ≤ 1000) (hc : ce + 1 ≤ J.2.2.1) (hs : sl + N ≤ J.2.2.2.1) (kk : Rch J (ce + 1) (sl + N) (pc + 2) lv (.ref (aNew h) :: st) (aPush h (.inl (.int, N, .inl (fun _ => 0))))) : Rch J ce sl pc lv (.int n :: st) h := by
  intro l G sg R p e s m args below meth c H locs ls hR C hl hH hS
  have hts := C.2.2.2.2.2.1
  refine va_newaK (atype := .int) C.1 C.2.1 (hts _ hq) rfl hd rfl hn hN (by simp [componentBytes, newarray.typeOf]; omega) (Nat.le_trans hc hR.2.2.1) (Nat.le_trans hs hR.2.2.2) rfl fun H1 cA e1 z1 o1 hAr hNm => ?_
  have hcA : cA = G.2.1 .int := Option.some.inj (hNm.symm.trans ((C.2.2.2.2.2.2.2.2.1.1.2 0 _ rfl).2))
  subst hcA
  obtain ⟨hH1, hn2⟩ := hH.push (c := .inl (.int, N, .inl (fun _ => 0))) rfl e1 z1 o1
  have k2 := kk l G sg R p e s m args below meth c H1 locs ls hR C hl hH1 (vaS_new hS z1 o1)
  rw [← hn2]
  exact k2
theorem r_newa_long {J : Jb} {ce sl pc : Nat} {lv : List (Option Value)} {st : List Value} {h : AHp} {n : Int32} (N : Nat) (hq : Cond.arrayClass .long ∈ lw_all) (hd : decode J.1.2.1 pc = .ok (.newarray .long, 2)) (hn : ¬ n < 0) (hN : n.toNatClampNeg = N) (hN2 : N ≤ 1000) (hc : ce + 1 ≤ J.2.2.1) (hs : sl + N ≤ J.2.2.2.1) (kk : Rch J (ce + 1) (sl + N) (pc + 2) lv (.ref (aNew h) :: st) (aPush h (.inl (.long, N, .inr (.inl (fun _ => 0)))))) : Rch J ce sl pc lv (.int n :: st) h := by
  intro l G sg R p e s m args below meth c H locs ls hR C hl hH hS
  have hts := C.2.2.2.2.2.1
  refine va_newaK (atype := .long) C.1 C.2.1 (hts _ hq) rfl hd rfl hn hN (by simp [componentBytes, newarray.typeOf]; omega) (Nat.le_trans hc hR.2.2.1) (Nat.le_trans hs hR.2.2.2) rfl fun H1 cA e1 z1 o1 hAr hNm => ?_
  have hcA : cA = G.2.1 .long := Option.some.inj (hNm.symm.trans ((C.2.2.2.2.2.2.2.2.1.1.2 1 _ rfl).2))
  subst hcA
  obtain ⟨hH1, hn2⟩ := hH.push (c := .inl (.long, N, .inr (.inl (fun _ => 0)))) rfl e1 z1 o1
  have k2 := kk l G sg R p e s m args below meth c H1 locs ls hR C hl hH1 (vaS_new hS z1 o1)
  rw [← hn2]
  exact k2
theorem r_newa_byte {J : Jb} {ce sl pc : Nat} {lv : List (Option Value)} {st : List Value} {h : AHp} {n : Int32} (N : Nat) (hq : Cond.arrayClass .byte ∈ lw_all) (hd : decode J.1.2.1 pc = .ok (.newarray .byte, 2)) (hn : ¬ n < 0) (hN : n.toNatClampNeg = N) (hN2 : N ≤ 1000) (hc : ce + 1 ≤ J.2.2.1) (hs : sl + N ≤ J.2.2.2.1) (kk : Rch J (ce + 1) (sl + N) (pc + 2) lv (.ref (aNew h) :: st) (aPush h (.inl (.byte, N, .inl (fun _ => 0))))) : Rch J ce sl pc lv (.int n :: st) h := by
  intro l G sg R p e s m args below meth c H locs ls hR C hl hH hS
  have hts := C.2.2.2.2.2.1
  refine va_newaK (atype := .byte) C.1 C.2.1 (hts _ hq) rfl hd rfl hn hN (by simp [componentBytes, newarray.typeOf]; omega) (Nat.le_trans hc hR.2.2.1) (Nat.le_trans hs hR.2.2.2) rfl fun H1 cA e1 z1 o1 hAr hNm => ?_
  have hcA : cA = G.2.1 .byte := Option.some.inj (hNm.symm.trans ((C.2.2.2.2.2.2.2.2.1.1.2 2 _ rfl).2))
  subst hcA
  obtain ⟨hH1, hn2⟩ := hH.push (c := .inl (.byte, N, .inl (fun _ => 0))) rfl e1 z1 o1
  have k2 := kk l G sg R p e s m args below meth c H1 locs ls hR C hl hH1 (vaS_new hS z1 o1)
  rw [← hn2]
  exact k2
theorem r_newa_short {J : Jb} {ce sl pc : Nat} {lv : List (Option Value)} {st : List Value} {h : AHp} {n : Int32} (N : Nat) (hq : Cond.arrayClass .short ∈ lw_all) (hd : decode J.1.2.1 pc = .ok (.newarray .short, 2)) (hn : ¬ n < 0) (hN : n.toNatClampNeg = N) (hN2 : N ≤ 1000) (hc : ce + 1 ≤ J.2.2.1) (hs : sl + N ≤ J.2.2.2.1) (kk : Rch J (ce + 1) (sl + N) (pc + 2) lv (.ref (aNew h) :: st) (aPush h (.inl (.short, N, .inl (fun _ => 0))))) : Rch J ce sl pc lv (.int n :: st) h := by
  intro l G sg R p e s m args below meth c H locs ls hR C hl hH hS
  have hts := C.2.2.2.2.2.1
  refine va_newaK (atype := .short) C.1 C.2.1 (hts _ hq) rfl hd rfl hn hN (by simp [componentBytes, newarray.typeOf]; omega) (Nat.le_trans hc hR.2.2.1) (Nat.le_trans hs hR.2.2.2) rfl fun H1 cA e1 z1 o1 hAr hNm => ?_
  have hcA : cA = G.2.1 .short := Option.some.inj (hNm.symm.trans ((C.2.2.2.2.2.2.2.2.1.1.2 3 _ rfl).2))
  subst hcA
  obtain ⟨hH1, hn2⟩ := hH.push (c := .inl (.short, N, .inl (fun _ => 0))) rfl e1 z1 o1
  have k2 := kk l G sg R p e s m args below meth c H1 locs ls hR C hl hH1 (vaS_new hS z1 o1)
  rw [← hn2]
  exact k2
theorem r_newa_boolean {J : Jb} {ce sl pc : Nat} {lv : List (Option Value)} {st : List Value} {h : AHp} {n : Int32} (N : Nat) (hq : Cond.arrayClass .boolean ∈ lw_all) (hd : decode J.1.2.1 pc = .ok (.newarray .boolean, 2)) (hn : ¬ n < 0) (hN : n.toNatClampNeg = N) (hN2 : N ≤ 1000) (hc : ce + 1 ≤ J.2.2.1) (hs : sl + N ≤ J.2.2.2.1) (kk : Rch J (ce + 1) (sl + N) (pc + 2) lv (.ref (aNew h) :: st) (aPush h (.inl (.boolean, N, .inl (fun _ => 0))))) : Rch J ce sl pc lv (.int n :: st) h := by
  intro l G sg R p e s m args below meth c H locs ls hR C hl hH hS
  have hts := C.2.2.2.2.2.1
  refine va_newaK (atype := .boolean) C.1 C.2.1 (hts _ hq) rfl hd rfl hn hN (by simp [componentBytes, newarray.typeOf]; omega) (Nat.le_trans hc hR.2.2.1) (Nat.le_trans hs hR.2.2.2) rfl fun H1 cA e1 z1 o1 hAr hNm => ?_
  have hcA : cA = G.2.1 .boolean := Option.some.inj (hNm.symm.trans ((C.2.2.2.2.2.2.2.2.1.1.2 4 _ rfl).2))
  subst hcA
  obtain ⟨hH1, hn2⟩ := hH.push (c := .inl (.boolean, N, .inl (fun _ => 0))) rfl e1 z1 o1
  have k2 := kk l G sg R p e s m args below meth c H1 locs ls hR C hl hH1 (vaS_new hS z1 o1)
  rw [← hn2]
  exact k2
theorem r_newq_looker {J : Jb} {ce sl pc : Nat} {lv : List (Option Value)} {st : List Value} {h : AHp} {n : Int32} {index : Nat} (N : Nat) (hq : Cond.classLink J.1.1.cls index "SeenInOrderOfAge$Looker" ∈ lw_all) (hd : decode J.1.2.1 pc = .ok (.anewarray index, 3)) (hn : ¬ n < 0) (hN : n.toNatClampNeg = N) (hN2 : N ≤ 1000) (hc : ce + 1 ≤ J.2.2.1) (hs : sl + N ≤ J.2.2.2.1) (kk : Rch J (ce + 1) (sl + N) (pc + 3) lv (.ref (aNew h) :: st) (aPush h (.inl (.object "SeenInOrderOfAge$Looker", N, .inr (.inr (.inr (.inr (fun _ => none)))))))) : Rch J ce sl pc lv (.int n :: st) h := by
  intro l G sg R p e s m args below meth c H locs ls hR C hl hH hS
  subst hN
  have hts := C.2.2.2.2.2.1
  refine W.anew C.1 C.2.1 C.2.2.2.2.1 (hts _ hq) (va_AO.use C.2.2.2.2.2.2.2.2.1.2.2.2.1) rfl hd rfl hn (by omega) (Nat.le_trans hc hR.2.2.1) (Nat.le_trans hs hR.2.2.2) fun cA kA comp f1 f2 f3 f4 => ?_
  generalize hH1e : H.push ({ cls := cA, slots := Array.replicate n.toNatClampNeg .null, vm := .none } : Cell) = H1
  have z1 : H1.size = H.size + 1 := by rw [← hH1e, Array.size_push]
  have e1 : H1[H.size]? = some (arrV cA n.toNatClampNeg (fun _ => .null)) := by rw [← hH1e, Array.getElem?_push_size, ← arrV_new]
  have o1 : ∀ q : Nat, q < H.size → H1[q]? = H[q]? := fun q hq => by rw [← hH1e, Array.getElem?_push, if_neg (Nat.ne_of_lt hq)]
  obtain ⟨kA2, comp2, g1, g2, g3, g4⟩ := (C.2.2.2.2.2.2.2.2.1.1.2 5 _ rfl).2
  have hcA : cA = G.2.1 (.object "SeenInOrderOfAge$Looker") := Option.some.inj (f1.symm.trans g4)
  subst hcA
  obtain ⟨hH1, hn2⟩ := hH.push (c := .inl (.object "SeenInOrderOfAge$Looker", n.toNatClampNeg, .inr (.inr (.inr (.inr (fun _ => none)))))) rfl e1 z1 o1
  have k2 := kk l G sg R p e s m args below meth c H1 locs ls hR C hl hH1 (vaS_new hS z1 o1)
  rw [← hn2]
  exact k2
theorem r_newq_sheet {J : Jb} {ce sl pc : Nat} {lv : List (Option Value)} {st : List Value} {h : AHp} {n : Int32} {index : Nat} (N : Nat) (hq : Cond.classLink J.1.1.cls index "SeenInOrderOfAge$Sheet" ∈ lw_all) (hd : decode J.1.2.1 pc = .ok (.anewarray index, 3)) (hn : ¬ n < 0) (hN : n.toNatClampNeg = N) (hN2 : N ≤ 1000) (hc : ce + 1 ≤ J.2.2.1) (hs : sl + N ≤ J.2.2.2.1) (kk : Rch J (ce + 1) (sl + N) (pc + 3) lv (.ref (aNew h) :: st) (aPush h (.inl (.object "SeenInOrderOfAge$Sheet", N, .inr (.inr (.inr (.inr (fun _ => none)))))))) : Rch J ce sl pc lv (.int n :: st) h := by
  intro l G sg R p e s m args below meth c H locs ls hR C hl hH hS
  subst hN
  have hts := C.2.2.2.2.2.1
  refine W.anew C.1 C.2.1 C.2.2.2.2.1 (hts _ hq) (va_AO.use C.2.2.2.2.2.2.2.2.1.2.2.2.2.1) rfl hd rfl hn (by omega) (Nat.le_trans hc hR.2.2.1) (Nat.le_trans hs hR.2.2.2) fun cA kA comp f1 f2 f3 f4 => ?_
  generalize hH1e : H.push ({ cls := cA, slots := Array.replicate n.toNatClampNeg .null, vm := .none } : Cell) = H1
  have z1 : H1.size = H.size + 1 := by rw [← hH1e, Array.size_push]
  have e1 : H1[H.size]? = some (arrV cA n.toNatClampNeg (fun _ => .null)) := by rw [← hH1e, Array.getElem?_push_size, ← arrV_new]
  have o1 : ∀ q : Nat, q < H.size → H1[q]? = H[q]? := fun q hq => by rw [← hH1e, Array.getElem?_push, if_neg (Nat.ne_of_lt hq)]
  obtain ⟨kA2, comp2, g1, g2, g3, g4⟩ := (C.2.2.2.2.2.2.2.2.1.1.2 6 _ rfl).2
  have hcA : cA = G.2.1 (.object "SeenInOrderOfAge$Sheet") := Option.some.inj (f1.symm.trans g4)
  subst hcA
  obtain ⟨hH1, hn2⟩ := hH.push (c := .inl (.object "SeenInOrderOfAge$Sheet", n.toNatClampNeg, .inr (.inr (.inr (.inr (fun _ => none)))))) rfl e1 z1 o1
  have k2 := kk l G sg R p e s m args below meth c H1 locs ls hR C hl hH1 (vaS_new hS z1 o1)
  rw [← hn2]
  exact k2
