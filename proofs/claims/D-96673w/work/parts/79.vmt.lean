set_option maxRecDepth 100000
/-! exceptions that the machine itself makes (with a text) -/
/-- words of the start that stay true though they are no good words -/
def tmW : Cond → Bool
  | .castable _ _ => true
  | .declares _ => true
  | .laysStatic _ _ _ => true
  | w => goodWord w
theorem ls_old {G : GX} {s : State} {args : Array Value} {C n d : String} (ho : Old G s s.heap) (h : (Cond.laysStatic C n d).before G.2.2.2.2.2.2.2 G.2.2.2.2.2.2.1 = true) : (Cond.laysStatic C n d).before args s = true := by
  obtain ⟨c, k, i, f, a, cell, hc, hi, hst, ha, hcell, hs, hcls, hlt, hty⟩ := Cond.laysStatic_spec h
  obtain ⟨k', hi', he⟩ := State.fieldFound?_setVm ho.1.alike hi
  have hlt2 : a < G.2.2.1 := by rw [← ho.2.1]; exact (Array.getElem?_eq_some_iff.mp hcell).1
  exact Cond.laysStatic_of (s := s) (by rw [ho.1.alike.findClass]; exact hc) hi' hst (by rw [he]; exact ha) (by rw [ho.2.2.1 a hlt2]; exact hcell) hs hcls hlt (by rw [he]; exact hty)
theorem tm_ok {G : GX} {s : State} {args : Array Value} (ho : Old G s s.heap) {w : Cond} (hw : w ∈ lw_tbl) (ht : tmW w = true) : w.before args s = true := by
  have h0 := ho.2.2.2.1 w hw
  unfold tmW at ht
  split at ht
  · exact va_Nw.use rfl (va_Nw.warmC ho.1 (va_Nw.of rfl h0))
  · exact va_Nw.use rfl (va_Nw.warmD ho.1 (va_Nw.of rfl h0))
  · exact ls_old ho h0
  · exact word_at ho.1 (good_of_word ht) h0
def atm (i : Nat) : Cond := if i = 9000 then .isRef (.static "java/lang/Throwable" "UNASSIGNED_STACK" "[Ljava/lang/StackTraceElement;") else if i = 9001 then .isRef (.static "java/lang/Throwable" "SUPPRESSED_SENTINEL" "Ljava/util/List;") else lw_tbl.getD i .tt
theorem zq_old {G : GX} {s : State} {C n d : String} {args : Array Value} (ho : Old G s s.heap) (hl : Cond.laysStatic C n d ∈ lw_tbl) (hini : Cond.initialized C ∈ lw_tbl) (hr : (Cond.isRef (.static C n d)).before G.2.2.2.2.2.2.2 G.2.2.2.2.2.2.1 = true) : va_Zq C n d (gA G) s s.heap ∧ (Cond.isRef (.static C n d)).before args s = true := by
  have hz := va_Zqof (A := gA G) (ho.2.2.2.1 _ hl) (ho.2.2.2.1 _ hini) hr (fun a ha h => by
    have h : G.2.2.1 ≤ a := h
    rw [ho.2.1] at ha
    omega)
  have hz2 := (hz.moved ho.1.alike).kept (fun a ha _ => ho.2.2.1 a (by rw [← ho.2.1]; exact ha))
  refine ⟨hz2, ?_⟩
  have key : ∀ v : Value, va_Z C n d v (gA G) s s.heap → (Term.static C n d).eval args s none [] s = some v := by
    intro v hv
    obtain ⟨cf, kf, fi, f, a, cell, h1, h2, h3, h4, h5, h6, h7, -⟩ := hv
    simp [Term.eval, State.fieldNamed?, h1, h2, h4, h5, h6, h7]
  rcases hz2 with h | ⟨t, h⟩
  · simp [Cond.before, Cond.holds, Cond.value, key _ h]
  · simp [Cond.before, Cond.holds, Cond.value, key _ h]
theorem atm_ok {G : GX} {s : State} {args : Array Value} (ho : Old G s s.heap) (i : Nat) (h : (i == 9000 || (i == 9001 || tmW (atm i))) = true) : (atm i).before args s = true := by
  have hini : Cond.initialized "java/lang/Throwable" ∈ lw_tbl := lw_all_tbl q90
  unfold atm at h ⊢
  by_cases h1 : i = 9000
  · rw [if_pos h1]
    exact (zq_old ho (List.mem_of_getElem? (i := 302) rfl) hini (nar ho.2.2.2 [false, false, false, false, false, false, false, false, true, false] rfl)).2
  · rw [if_neg h1] at h ⊢
    by_cases h2 : i = 9001
    · rw [if_pos h2]
      exact (zq_old ho (List.mem_of_getElem? (i := 304) rfl) hini (nar ho.2.2.2 [false, false, false, false, false, false, false, false, true, true] rfl)).2
    · rw [if_neg h2] at h ⊢
      have h : tmW (lw_tbl.getD i .tt) = true := by simpa [h1, h2] using h
      cases he : lw_tbl[i]? with
      | none =>
        rw [List.getD_eq_getElem?_getD, he]
        rfl
      | some w =>
        rw [List.getD_eq_getElem?_getD, he] at h ⊢
        exact tm_ok ho (List.mem_of_getElem? he) h
theorem atm_all {G : GX} {s : State} {args : Array Value} (ho : Old G s s.heap) {ws : List Cond} {is : List Nat} (e : ws = is.map atm) (h : is.all (fun i => i == 9000 || (i == 9001 || tmW (atm i))) = true) : ∀ w ∈ ws, w.before args s = true := by
  intro w hw
  rw [e] at hw
  obtain ⟨i, hi, rfl⟩ := List.mem_map.mp hw
  exact atm_ok ho i (List.all_eq_true.mp h i hi)
