set_option maxRecDepth 100000
/-! own exceptions are made -/
theorem r_astore_nN {J : Jb} {ce sl pc : Nat} {lv : List (Option Value)} {st : List Value} {h : AHp} {n : Fin 4} (hd : decode J.1.2.1 pc = .ok (.astore_n n, 1)) (hn : (n : Nat) < J.1.2.2.1) (k : Rch J ce sl (pc + 1) (lvS1 lv n .null) st h) : Rch J ce sl pc lv (.null :: st) h :=
  fun l G sg R p e s m args below meth c H locs ls hR C hl hH hS => lv_astore_nN C.1 C.2.1 hd rfl hl.has hn rfl fun ls' h' => k l G sg R p e s m args below meth c H locs ls' hR C (LvH.store1 (v := .null) h') hH hS
theorem zv_old {G : GX} {s : State} {C n d : String} (ho : Old G s s.heap) (hl : Cond.laysStatic C n d ∈ lw_tbl) (hini : Cond.initialized C ∈ lw_tbl) (hr : (Cond.isRef (.static C n d)).before G.2.2.2.2.2.2.2 G.2.2.2.2.2.2.1 = true) : ∃ v, (Term.static C n d).eval G.2.2.2.2.2.2.2 G.2.2.2.2.2.2.1 none [] G.2.2.2.2.2.2.1 = some v ∧ (v = .null ∨ ∃ t, v = .ref t) ∧ va_Z C n d v (gA G) s s.heap := by
  have hA : ∀ a : Nat, a < G.2.2.2.2.2.2.1.heap.size → ¬ gA G a := fun a ha h => by
    have h : G.2.2.1 ≤ a := h
    rw [ho.2.1] at ha
    omega
  have hmv : ∀ v, va_Z C n d v (gA G) G.2.2.2.2.2.2.1 G.2.2.2.2.2.2.1.heap → va_Z C n d v (gA G) s s.heap := fun v hz => (hz.moved ho.1.alike).kept (fun a ha _ => ho.2.2.1 a (by rw [← ho.2.1]; exact ha))
  cases hv : (Term.static C n d).eval G.2.2.2.2.2.2.2 G.2.2.2.2.2.2.1 none [] G.2.2.2.2.2.2.1 with
  | none => simp [Cond.before, Cond.holds, Cond.value, hv] at hr
  | some w =>
    simp only [Cond.before, Cond.holds, Cond.value, hv] at hr
    cases w with
    | null => exact ⟨_, rfl, Or.inl rfl, hmv _ (va_Zof (ho.2.2.2.1 _ hl) (ho.2.2.2.1 _ hini) hv hA)⟩
    | ref t => exact ⟨_, rfl, Or.inr ⟨t, rfl⟩, hmv _ (va_Zof (ho.2.2.2.1 _ hl) (ho.2.2.2.1 _ hini) hv hA)⟩
    | _ => simp at hr
theorem r_getsR {J : Jb} {ce sl pc : Nat} {lv : List (Option Value)} {st : List Value} {h : AHp} {C n d : String} {index : Nat} (i : Nat) (pth : List Bool) (hi : strT[i]? = some (Term.static C n d)) (hp : aP pth narrow_1 = .isRef (.static C n d)) (hl : Cond.laysStatic C n d ∈ lw_tbl) (hini : Cond.initialized C ∈ lw_tbl) (hq : Cond.fieldLink J.1.1.cls index C n d ∈ lw_all) (hd : decode J.1.2.1 pc = .ok (.getstatic index, 3)) (k1 : ∀ v, (v = .null ∨ v = .ref (8 * (i + 1) + 4)) → Rch J ce sl (pc + 3) lv (v :: st) h) : Rch J ce sl pc lv st h := by
  intro l G sg R p e s m args below meth c H locs ls hR C hl2 hH hS
  have ho : Old G s s.heap := C.2.2.2.2.2.2.2.2.1.2.2.2.2.2.2.2
  obtain ⟨v, ev, hv, hz⟩ := zv_old ho hl hini (nar ho.2.2.2 pth hp)
  refine va_gets C.1 C.2.1 hz hS C.2.2.2.2.1 (C.2.2.2.2.2.1 _ hq) (fun x hx => hx) hd ?_
  rcases hv with rfl | ⟨t, rfl⟩
  · exact k1 .null (Or.inl rfl) l G sg R p e s m args below meth c H locs ls hR C hl2 hH hS
  · have e1 : sg (8 * (i + 1) + 4) = t := by
      rw [hH.2.2.2.2 (i + 1)]
      exact ho.2.2.2.2.2.2.1 i _ t hi ev
    have := k1 (.ref (8 * (i + 1) + 4)) (Or.inr rfl) l G sg R p e s m args below meth c H locs ls hR C hl2 hH hS
    have e2 : rv sg (.ref (8 * (i + 1) + 4)) = .ref t := by show Value.ref (sg (8 * (i + 1) + 4)) = _; rw [e1]
    simp only [List.map_cons, e2] at this
    exact this
theorem pJ1_init_3_6 {h : AHp} {w : Nat} {f0 f1 f2 f3 f4 f5 f6 : Value} {Q : Option Value → AHp → Prop} (hw : aGet h w = some (.inr (6, [f0, f1, f2, f3, f4, f5, f6]))) (hQ : ∀ g0 g1 g2 g3 g4 g5, Q none (aSet h w (.inr (6, [g0, g1, g2, g3, g4, g5, f6])))) : AMet mJ1_init_3 1 0 0 [.ref w, .null, .null, .int 0, .int 0] h Q := by
  refine AMet.ofRch rfl rfl (Nat.le_of_ble_eq_true rfl) ?_
  refine r_aload_n dJ1_init_3_0 rfl ?_
  refine r_objInit q300 dJ1_init_3_1 (Nat.le_of_ble_eq_true rfl) ?_
  refine r_aload_n dJ1_init_3_4 rfl ?_
  refine r_aload_n dJ1_init_3_5 rfl ?_
  refine r_put bX6 0 (by decide) rfl q336 dJ1_init_3_6 rfl rfl hw (Nat.le_of_ble_eq_true rfl) ?_
  refine r_aload_n dJ1_init_3_9 rfl ?_
  refine r_getsR 28 [false, false, false, false, false, false, false, false, true, false] rfl rfl (List.mem_of_getElem? (i := 302) rfl) (lw_all_tbl q90) q301 dJ1_init_3_10 (fun v1 hv1 => ?_)
  refine r_put bX6 1 (by decide) rfl q337 dJ1_init_3_13 (by rcases hv1 with rfl | rfl <;> rfl) (by rcases hv1 with rfl | rfl <;> rfl) (aGet_same hw) (Nat.le_of_ble_eq_true rfl) ?_
  refine r_aload_n dJ1_init_3_16 rfl ?_
  refine r_getsR 29 [false, false, false, false, false, false, false, false, true, true] rfl rfl (List.mem_of_getElem? (i := 304) rfl) (lw_all_tbl q90) q303 dJ1_init_3_17 (fun v2 hv2 => ?_)
  refine r_put bX6 2 (by decide) rfl q338 dJ1_init_3_20 (by rcases hv2 with rfl | rfl <;> rfl) (by rcases hv2 with rfl | rfl <;> rfl) (aGet_same (aGet_same hw)) (Nat.le_of_ble_eq_true rfl) ?_
  refine r_iload dJ1_init_3_23 rfl ?_
  refine r_if_eq 36 dJ1_init_3_25 (by decide) (fun _ => ?_) (fun c_ => absurd (rfl) c_)
  refine r_aload_n dJ1_init_3_36 rfl ?_
  refine r_null dJ1_init_3_37 ?_
  refine r_put bX6 1 (by decide) rfl q337 dJ1_init_3_38 rfl rfl (aGet_same (aGet_same (aGet_same hw))) (Nat.le_of_ble_eq_true rfl) ?_
  refine r_aload_n dJ1_init_3_41 rfl ?_
  refine r_aload_nN dJ1_init_3_42 rfl ?_
  refine r_put bX6 3 (by decide) rfl q335 dJ1_init_3_43 rfl rfl (aGet_same (aGet_same (aGet_same (aGet_same hw)))) (Nat.le_of_ble_eq_true rfl) ?_
  refine r_aload_n dJ1_init_3_46 rfl ?_
  refine r_aload_nN dJ1_init_3_47 rfl ?_
  refine r_put bX6 0 (by decide) rfl q336 dJ1_init_3_48 rfl rfl (aGet_same (aGet_same (aGet_same (aGet_same (aGet_same hw))))) (Nat.le_of_ble_eq_true rfl) ?_
  refine r_iload_n dJ1_init_3_51 rfl ?_
  refine r_if_ne 60 dJ1_init_3_52 (by decide) (fun c_ => absurd (rfl) c_) (fun _ => ?_)
  refine r_aload_n dJ1_init_3_55 rfl ?_
  refine r_null dJ1_init_3_56 ?_
  refine r_put bX6 2 (by decide) rfl q338 dJ1_init_3_57 rfl rfl (aGet_same (aGet_same (aGet_same (aGet_same (aGet_same (aGet_same hw)))))) (Nat.le_of_ble_eq_true rfl) ?_
  exact r_vret dJ1_init_3_60 rfl (Nat.le_of_ble_eq_true rfl) (Nat.le_of_ble_eq_true rfl) (by simp only [aSet_2]; exact hQ _ _ _ _ _ _)
theorem pJ2_init_2_6 {h : AHp} {w : Nat} {f0 f1 f2 f3 f4 f5 f6 : Value} {Q : Option Value → AHp → Prop} (hw : aGet h w = some (.inr (6, [f0, f1, f2, f3, f4, f5, f6]))) (hQ : ∀ g0 g1 g2 g3 g4 g5, Q none (aSet h w (.inr (6, [g0, g1, g2, g3, g4, g5, f6])))) : AMet mJ2_init_2 2 0 0 [.ref w, .null, .null, .int 0, .int 0] h Q := by
  refine AMet.ofRch rfl rfl (Nat.le_of_ble_eq_true rfl) ?_
  refine r_aload_n dJ2_init_2_0 rfl ?_
  refine r_aload_nN dJ2_init_2_1 rfl ?_
  refine r_aload_nN dJ2_init_2_2 rfl ?_
  refine r_iload_n dJ2_init_2_3 rfl ?_
  refine r_iload dJ2_init_2_4 rfl ?_
  refine r_callI (as := [_, _, _, _]) okJ1_init_3 q437 dJ2_init_2_6 (Nat.le_of_ble_eq_true rfl) rfl (Nat.le_of_ble_eq_true rfl) (Nat.le_of_ble_eq_true rfl) (Nat.le_of_ble_eq_true rfl) (pJ1_init_3_6 hw (fun g0 g1 g2 g3 g4 g5 => ?_))
  exact r_vret dJ2_init_2_9 rfl (Nat.le_of_ble_eq_true rfl) (Nat.le_of_ble_eq_true rfl) (hQ _ _ _ _ _ _)
theorem pJ3_init_2_6 {h : AHp} {w : Nat} {f0 f1 f2 f3 f4 f5 f6 : Value} {Q : Option Value → AHp → Prop} (hw : aGet h w = some (.inr (6, [f0, f1, f2, f3, f4, f5, f6]))) (hQ : ∀ g0 g1 g2 g3 g4 g5, Q none (aSet h w (.inr (6, [g0, g1, g2, g3, g4, g5, f6])))) : AMet mJ3_init_2 3 0 0 [.ref w, .null, .null, .int 0, .int 0] h Q := by
  refine AMet.ofRch rfl rfl (Nat.le_of_ble_eq_true rfl) ?_
  refine r_aload_n dJ3_init_2_0 rfl ?_
  refine r_aload_nN dJ3_init_2_1 rfl ?_
  refine r_aload_nN dJ3_init_2_2 rfl ?_
  refine r_iload_n dJ3_init_2_3 rfl ?_
  refine r_iload dJ3_init_2_4 rfl ?_
  refine r_callI (as := [_, _, _, _]) okJ2_init_2 q434 dJ3_init_2_6 (Nat.le_of_ble_eq_true rfl) rfl (Nat.le_of_ble_eq_true rfl) (Nat.le_of_ble_eq_true rfl) (Nat.le_of_ble_eq_true rfl) (pJ2_init_2_6 hw (fun g0 g1 g2 g3 g4 g5 => ?_))
  exact r_vret dJ3_init_2_9 rfl (Nat.le_of_ble_eq_true rfl) (Nat.le_of_ble_eq_true rfl) (hQ _ _ _ _ _ _)
theorem pX6_init {h : AHp} {w : Nat} {f0 f1 f2 f3 f4 f5 f6 : Value} {v : Int32} {Q : Option Value → AHp → Prop} (hw : aGet h w = some (.inr (6, [f0, f1, f2, f3, f4, f5, f6]))) (hQ : ∀ g0 g1 g2 g3 g4 g5, Q none (aSet h w (.inr (6, [g0, g1, g2, g3, g4, g5, .int v])))) : AMet mX6_init 4 0 0 [.ref w, .int v] h Q := by
  refine AMet.ofRch rfl rfl (Nat.le_of_ble_eq_true rfl) ?_
  refine r_aload_n dX6_init_0 rfl ?_
  refine r_null dX6_init_1 ?_
  refine r_null dX6_init_2 ?_
  refine r_iconst 0 dX6_init_3 (by decide) ?_
  refine r_iconst 0 dX6_init_4 (by decide) ?_
  refine r_callI (as := [_, _, _, _]) okJ3_init_2 q431 dX6_init_5 (Nat.le_of_ble_eq_true rfl) rfl (Nat.le_of_ble_eq_true rfl) (Nat.le_of_ble_eq_true rfl) (Nat.le_of_ble_eq_true rfl) (pJ3_init_2_6 hw (fun g0 g1 g2 g3 g4 g5 => ?_))
  refine r_aload_n dX6_init_8 rfl ?_
  refine r_iload_n dX6_init_9 rfl ?_
  refine r_putF bX6 6 (by decide) rfl rfl rfl q440 dX6_init_10 rfl rfl (aGet_same hw) (Nat.le_of_ble_eq_true rfl) ?_
  exact r_vret dX6_init_13 rfl (Nat.le_of_ble_eq_true rfl) (Nat.le_of_ble_eq_true rfl) (by simp only [aSet_2]; exact hQ _ _ _ _ _ _)
theorem pJ1_init_3_14 {h : AHp} {w : Nat} {f0 f1 f2 f3 f4 f5 f6 : Value} {Q : Option Value → AHp → Prop} (hw : aGet h w = some (.inr (14, [f0, f1, f2, f3, f4, f5, f6]))) (hQ : ∀ g0 g1 g2 g3 g4 g5, Q none (aSet h w (.inr (14, [g0, g1, g2, g3, g4, g5, f6])))) : AMet mJ1_init_3 1 0 0 [.ref w, .null, .null, .int 0, .int 0] h Q := by
  refine AMet.ofRch rfl rfl (Nat.le_of_ble_eq_true rfl) ?_
  refine r_aload_n dJ1_init_3_0 rfl ?_
  refine r_objInit q300 dJ1_init_3_1 (Nat.le_of_ble_eq_true rfl) ?_
  refine r_aload_n dJ1_init_3_4 rfl ?_
  refine r_aload_n dJ1_init_3_5 rfl ?_
  refine r_put bX14 0 (by decide) rfl q336 dJ1_init_3_6 rfl rfl hw (Nat.le_of_ble_eq_true rfl) ?_
  refine r_aload_n dJ1_init_3_9 rfl ?_
  refine r_getsR 28 [false, false, false, false, false, false, false, false, true, false] rfl rfl (List.mem_of_getElem? (i := 302) rfl) (lw_all_tbl q90) q301 dJ1_init_3_10 (fun v1 hv1 => ?_)
  refine r_put bX14 1 (by decide) rfl q337 dJ1_init_3_13 (by rcases hv1 with rfl | rfl <;> rfl) (by rcases hv1 with rfl | rfl <;> rfl) (aGet_same hw) (Nat.le_of_ble_eq_true rfl) ?_
  refine r_aload_n dJ1_init_3_16 rfl ?_
  refine r_getsR 29 [false, false, false, false, false, false, false, false, true, true] rfl rfl (List.mem_of_getElem? (i := 304) rfl) (lw_all_tbl q90) q303 dJ1_init_3_17 (fun v2 hv2 => ?_)
  refine r_put bX14 2 (by decide) rfl q338 dJ1_init_3_20 (by rcases hv2 with rfl | rfl <;> rfl) (by rcases hv2 with rfl | rfl <;> rfl) (aGet_same (aGet_same hw)) (Nat.le_of_ble_eq_true rfl) ?_
  refine r_iload dJ1_init_3_23 rfl ?_
  refine r_if_eq 36 dJ1_init_3_25 (by decide) (fun _ => ?_) (fun c_ => absurd (rfl) c_)
  refine r_aload_n dJ1_init_3_36 rfl ?_
  refine r_null dJ1_init_3_37 ?_
  refine r_put bX14 1 (by decide) rfl q337 dJ1_init_3_38 rfl rfl (aGet_same (aGet_same (aGet_same hw))) (Nat.le_of_ble_eq_true rfl) ?_
  refine r_aload_n dJ1_init_3_41 rfl ?_
  refine r_aload_nN dJ1_init_3_42 rfl ?_
  refine r_put bX14 3 (by decide) rfl q335 dJ1_init_3_43 rfl rfl (aGet_same (aGet_same (aGet_same (aGet_same hw)))) (Nat.le_of_ble_eq_true rfl) ?_
  refine r_aload_n dJ1_init_3_46 rfl ?_
  refine r_aload_nN dJ1_init_3_47 rfl ?_
  refine r_put bX14 0 (by decide) rfl q336 dJ1_init_3_48 rfl rfl (aGet_same (aGet_same (aGet_same (aGet_same (aGet_same hw))))) (Nat.le_of_ble_eq_true rfl) ?_
  refine r_iload_n dJ1_init_3_51 rfl ?_
  refine r_if_ne 60 dJ1_init_3_52 (by decide) (fun c_ => absurd (rfl) c_) (fun _ => ?_)
  refine r_aload_n dJ1_init_3_55 rfl ?_
  refine r_null dJ1_init_3_56 ?_
  refine r_put bX14 2 (by decide) rfl q338 dJ1_init_3_57 rfl rfl (aGet_same (aGet_same (aGet_same (aGet_same (aGet_same (aGet_same hw)))))) (Nat.le_of_ble_eq_true rfl) ?_
  exact r_vret dJ1_init_3_60 rfl (Nat.le_of_ble_eq_true rfl) (Nat.le_of_ble_eq_true rfl) (by simp only [aSet_2]; exact hQ _ _ _ _ _ _)
theorem pJ2_init_2_14 {h : AHp} {w : Nat} {f0 f1 f2 f3 f4 f5 f6 : Value} {Q : Option Value → AHp → Prop} (hw : aGet h w = some (.inr (14, [f0, f1, f2, f3, f4, f5, f6]))) (hQ : ∀ g0 g1 g2 g3 g4 g5, Q none (aSet h w (.inr (14, [g0, g1, g2, g3, g4, g5, f6])))) : AMet mJ2_init_2 2 0 0 [.ref w, .null, .null, .int 0, .int 0] h Q := by
  refine AMet.ofRch rfl rfl (Nat.le_of_ble_eq_true rfl) ?_
  refine r_aload_n dJ2_init_2_0 rfl ?_
  refine r_aload_nN dJ2_init_2_1 rfl ?_
  refine r_aload_nN dJ2_init_2_2 rfl ?_
  refine r_iload_n dJ2_init_2_3 rfl ?_
  refine r_iload dJ2_init_2_4 rfl ?_
  refine r_callI (as := [_, _, _, _]) okJ1_init_3 q437 dJ2_init_2_6 (Nat.le_of_ble_eq_true rfl) rfl (Nat.le_of_ble_eq_true rfl) (Nat.le_of_ble_eq_true rfl) (Nat.le_of_ble_eq_true rfl) (pJ1_init_3_14 hw (fun g0 g1 g2 g3 g4 g5 => ?_))
  exact r_vret dJ2_init_2_9 rfl (Nat.le_of_ble_eq_true rfl) (Nat.le_of_ble_eq_true rfl) (hQ _ _ _ _ _ _)
theorem pX14_init {h : AHp} {w : Nat} {f0 f1 f2 f3 f4 f5 f6 : Value} {v : Int32} {Q : Option Value → AHp → Prop} (hw : aGet h w = some (.inr (14, [f0, f1, f2, f3, f4, f5, f6]))) (hQ : ∀ g0 g1 g2 g3 g4 g5, Q none (aSet h w (.inr (14, [g0, g1, g2, g3, g4, g5, .int v])))) : AMet mX14_init 4 0 0 [.ref w, .int v] h Q := by
  refine AMet.ofRch rfl rfl (Nat.le_of_ble_eq_true rfl) ?_
  refine r_aload_n dX14_init_0 rfl ?_
  refine r_null dX14_init_1 ?_
  refine r_null dX14_init_2 ?_
  refine r_iconst 0 dX14_init_3 (by decide) ?_
  refine r_iconst 0 dX14_init_4 (by decide) ?_
  refine r_callI (as := [_, _, _, _]) okJ2_init_2 q1092 dX14_init_5 (Nat.le_of_ble_eq_true rfl) rfl (Nat.le_of_ble_eq_true rfl) (Nat.le_of_ble_eq_true rfl) (Nat.le_of_ble_eq_true rfl) (pJ2_init_2_14 hw (fun g0 g1 g2 g3 g4 g5 => ?_))
  refine r_aload_n dX14_init_8 rfl ?_
  refine r_iload_n dX14_init_9 rfl ?_
  refine r_putF bX14 6 (by decide) rfl rfl rfl q1093 dX14_init_10 rfl rfl (aGet_same hw) (Nat.le_of_ble_eq_true rfl) ?_
  exact r_vret dX14_init_13 rfl (Nat.le_of_ble_eq_true rfl) (Nat.le_of_ble_eq_true rfl) (by simp only [aSet_2]; exact hQ _ _ _ _ _ _)
