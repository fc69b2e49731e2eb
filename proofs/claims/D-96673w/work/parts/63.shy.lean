set_option maxRecDepth 100000
/-! the component: the shy -/
/-- the sort he'd take, of the first n -/
def bsF (P : Nat → Int32) (m : Int32) : Nat → Int32
  | 0 => -1
  | n + 1 => if hasB m (nI n) = true ∧ (if bsF P m n = -1 then 0 else cnF P (bsF P m n)) < cnF P (nI n) then nI n else bsF P m n
theorem bs_t {P : Nat → Int32} {m : Int32} {n : Nat} (h1 : hasB m (nI n) = true) (h2 : (if bsF P m n = -1 then 0 else cnF P (bsF P m n)) < cnF P (nI n)) : bsF P m (n + 1) = nI n := if_pos ⟨h1, h2⟩
theorem bs_f1 {P : Nat → Int32} {m : Int32} {n : Nat} (h1 : hasB m (nI n) = false) : bsF P m (n + 1) = bsF P m n := if_neg (fun z => by rw [h1] at z; cases z.1)
theorem bs_f2 {P : Nat → Int32} {m : Int32} {n : Nat} (h2 : cnF P (nI n) ≤ (if bsF P m n = -1 then 0 else cnF P (bsF P m n))) : bsF P m (n + 1) = bsF P m n := if_neg (fun z => Int32.not_le.mpr z.2 h2)
theorem bs_in (P : Nat → Int32) (m : Int32) : ∀ n, bsF P m n = -1 ∨ ∃ t, t < n ∧ bsF P m n = nI t
  | 0 => Or.inl rfl
  | n + 1 => by
    by_cases g : hasB m (nI n) = true ∧ (if bsF P m n = -1 then 0 else cnF P (bsF P m n)) < cnF P (nI n)
    · exact Or.inr ⟨n, by omega, if_pos g⟩
    · rw [show bsF P m (n + 1) = bsF P m n from if_neg g]
      rcases bs_in P m n with e | ⟨t, ht, e⟩
      · exact Or.inl e
      · exact Or.inr ⟨t, by omega, e⟩
theorem bs_sh {P : Nat → Int32} {w : Nat} {lk : Int32} (hw : w < 8) : ∀ n, n ≤ 8 → shI (nI w) lk P n = if bsF P (lk ||| (1 <<< (nI w &&& 31))) n = -1 then ((0, -1) : Int32 × Int32) else (cnF P (bsF P (lk ||| (1 <<< (nI w &&& 31))) n), fwF P (bsF P (lk ||| (1 <<< (nI w &&& 31))) n))
  | 0, _ => rfl
  | n + 1, hn => by
    have ih := bs_sh (P := P) (lk := lk) hw n (by omega)
    have e1 : hasB (lk ||| (1 <<< (nI w &&& 31))) (nI n) = likeB (nI w) lk (nI n) := by
      have h1 := ma_like (lk := lk) (x := nI n) hw rfl (Or.inr ⟨n, by omega, rfl⟩)
      rw [← h1]
      have : ¬ nI n = -1 := nI_m1 (by omega)
      simp [maB, this]
    have e2 : (shI (nI w) lk P n).1 = if bsF P (lk ||| (1 <<< (nI w &&& 31))) n = -1 then 0 else cnF P (bsF P (lk ||| (1 <<< (nI w &&& 31))) n) := by
      rw [ih]
      split <;> rfl
    simp only [shI, bsF, e1, e2]
    have e3 : ¬ nI n = -1 := nI_m1 (by omega)
    by_cases g : likeB (nI w) lk (nI n) = true ∧ (if bsF P (lk ||| (1 <<< (nI w &&& 31))) n = -1 then 0 else cnF P (bsF P (lk ||| (1 <<< (nI w &&& 31))) n)) < cnF P (nI n)
    · rw [if_pos g, if_pos g, if_neg e3]
    · rw [if_neg g, if_neg g, ih]
section PP
variable {h : AHp} {a s : Nat} {f : Int32} {P : Nat → Int32} {Q : Option Value → AHp → Prop}
theorem pX12_takes {o w : Nat} {nu lk : Int32} (hw : w < 8) (hoa : a ≠ o) (hos : s ≠ o) (ho : aGet h o = some (.inr (12, [.int nu, .int (nI w)]))) (ha : aGet h a = some (.inr (2, [.ref s, .int (-1)]))) (hs : aGet h s = some (.inl (.int, 12, .inl P))) (hne : a ≠ s) (hP : ThI P) (hQ : Q (some (.int (goF 5 (nI w) lk (P, 0, -1)).2.1)) (pnS h a s (goF 5 (nI w) lk (P, 0, -1)).2.2 (goF 5 (nI w) lk (P, 0, -1)).1)) : AMet mX12_takes 4 0 0 [.ref o, .ref a, .int (lk ||| (1 <<< (nI w &&& 31)))] h Q := by
  refine AMet.ofRch rfl rfl (Nat.le_of_ble_eq_true rfl) ?_
  have t0 : TfI ((P, 0, -1) : EV) := ⟨fun _ => rfl, fun _ => rfl⟩
  have e0 : goF 5 (nI w) lk (P, 0, -1) = tkF (shI (nI w) lk P 8).2 (P, 0, -1) := rfl
  rw [e0, tk_oc t0, bs_sh hw 8 (Nat.le_refl _)] at hQ
  simp only [Int32.zero_or] at hQ
  generalize hm : lk ||| (1 <<< (nI w &&& 31)) = m at hQ ⊢
  refine r_iconst (-1) dX12_takes_0 (by decide) ?_
  refine r_istore_n dX12_takes_1 (Nat.le_of_ble_eq_true rfl) ?_
  refine r_iconst 0 dX12_takes_2 (by decide) ?_
  refine r_istore dX12_takes_3 (Nat.le_of_ble_eq_true rfl) ?_
  refine loopUp (N := 8) (P := fun n => ∀ y : Option Value, Rch (mX12_takes, 4, 0, 0, oQ Q) 0 0 5 [some (.ref o), some (.ref a), some (.int m), some (.int (bsF P m n)), some (.int (nI n)), y] [] h) ?_ ?_ none
  · intro y
    rcases bs_in P m 8 with e | ⟨t, ht, e⟩
    · rw [if_pos e, oc_m1] at hQ
      have hQ : Q (some (.int 0)) (pnS h a s (-1) P) := hQ
      rw [pnS_id ha hs] at hQ
      refine r_iload dX12_takes_5 rfl ?_
      refine r_bipush 8 dX12_takes_7 (by decide) ?_
      refine r_icmp_ge 69 dX12_takes_9 (by decide) (fun _ => ?_) (fun c_ => absurd (geT 8) c_)
      refine r_iload_n dX12_takes_69 rfl ?_
      refine r_iconst (-1) dX12_takes_70 (by decide) ?_
      refine r_icmp_ne 78 dX12_takes_71 (by decide) (fun c_ => absurd (e) c_) (fun _ => ?_)
      refine r_iconst 0 dX12_takes_74 (by decide) ?_
      refine r_goto 89 dX12_takes_75 (by decide) ?_
      exact r_iret dX12_takes_89 rfl (Nat.le_of_ble_eq_true rfl) (Nat.le_of_ble_eq_true rfl) (hQ)
    · rw [e, if_neg (nI_m1 (by omega))] at hQ
      have e4 : ¬ bsF P m 8 = -1 := by rw [e]; exact nI_m1 (by omega)
      rcases fw_PlN P (nI t) with e2 | ⟨q, hq, e2⟩
      · rw [e2, oc_m1] at hQ
        have hQ : Q (some (.int 0)) (pnS h a s (-1) P) := hQ
        rw [pnS_id ha hs] at hQ
        refine r_iload dX12_takes_5 rfl ?_
        refine r_bipush 8 dX12_takes_7 (by decide) ?_
        refine r_icmp_ge 69 dX12_takes_9 (by decide) (fun _ => ?_) (fun c_ => absurd (geT 8) c_)
        refine r_iload_n dX12_takes_69 rfl ?_
        refine r_iconst (-1) dX12_takes_70 (by decide) ?_
        refine r_icmp_ne 78 dX12_takes_71 (by decide) (fun _ => ?_) (fun c_ => absurd c_ (e4))
        refine r_aload_n dX12_takes_78 rfl ?_
        refine r_aload_n dX12_takes_79 rfl ?_
        refine r_iconst 1 dX12_takes_80 (by decide) ?_
        refine r_iload_n dX12_takes_81 rfl ?_
        rw [e]
        refine r_ishl dX12_takes_82 ?_
        refine r_callV (as := [_]) okX2_firstOf bX2 rfl ha q627 dX12_takes_83 (Nat.le_of_ble_eq_true rfl) rfl (Nat.le_of_ble_eq_true rfl) (Nat.le_of_ble_eq_true rfl) (Nat.le_of_ble_eq_true rfl) (pX2_firstOf ha hs ?_)
        rw [fw_ma ht rfl hP, e2]
        refine r_callV (as := [_]) okX2_takes bX2 rfl ha q628 dX12_takes_86 (Nat.le_of_ble_eq_true rfl) rfl (Nat.le_of_ble_eq_true rfl) (Nat.le_of_ble_eq_true rfl) (Nat.le_of_ble_eq_true rfl) (pX2_takes0 ?_)
        exact r_iret dX12_takes_89 rfl (Nat.le_of_ble_eq_true rfl) (Nat.le_of_ble_eq_true rfl) (hQ)
      · rw [e2, oc_q (by omega)] at hQ
        refine r_iload dX12_takes_5 rfl ?_
        refine r_bipush 8 dX12_takes_7 (by decide) ?_
        refine r_icmp_ge 69 dX12_takes_9 (by decide) (fun _ => ?_) (fun c_ => absurd (geT 8) c_)
        refine r_iload_n dX12_takes_69 rfl ?_
        refine r_iconst (-1) dX12_takes_70 (by decide) ?_
        refine r_icmp_ne 78 dX12_takes_71 (by decide) (fun _ => ?_) (fun c_ => absurd c_ (e4))
        refine r_aload_n dX12_takes_78 rfl ?_
        refine r_aload_n dX12_takes_79 rfl ?_
        refine r_iconst 1 dX12_takes_80 (by decide) ?_
        refine r_iload_n dX12_takes_81 rfl ?_
        rw [e]
        refine r_ishl dX12_takes_82 ?_
        refine r_callV (as := [_]) okX2_firstOf bX2 rfl ha q627 dX12_takes_83 (Nat.le_of_ble_eq_true rfl) rfl (Nat.le_of_ble_eq_true rfl) (Nat.le_of_ble_eq_true rfl) (Nat.le_of_ble_eq_true rfl) (pX2_firstOf ha hs ?_)
        rw [fw_ma ht rfl hP, e2]
        refine r_callV (as := [_]) okX2_takes bX2 rfl ha q628 dX12_takes_86 (Nat.le_of_ble_eq_true rfl) rfl (Nat.le_of_ble_eq_true rfl) (Nat.le_of_ble_eq_true rfl) (Nat.le_of_ble_eq_true rfl) (pX2_takes hq ha hs hne ?_)
        exact r_iret dX12_takes_89 rfl (Nat.le_of_ble_eq_true rfl) (Nat.le_of_ble_eq_true rfl) (hQ)
  · intro n hn ih y
    refine r_iload dX12_takes_5 rfl ?_
    refine r_bipush 8 dX12_takes_7 (by decide) ?_
    refine r_icmp_ge 69 dX12_takes_9 (by decide) (fun c_ => absurd c_ (geF hn (by decide))) (fun _ => ?_)
    refine r_aload_n dX12_takes_12 rfl ?_
    refine r_iload dX12_takes_13 rfl ?_
    refine r_callV (as := [_]) okX2_many bX2 rfl ha q625 dX12_takes_15 (Nat.le_of_ble_eq_true rfl) rfl (Nat.le_of_ble_eq_true rfl) (Nat.le_of_ble_eq_true rfl) (Nat.le_of_ble_eq_true rfl) (pX2_many ha hs ?_)
    refine r_iload_n dX12_takes_18 rfl ?_
    refine r_iconst (-1) dX12_takes_19 (by decide) ?_
    refine r_icmp_ne 27 dX12_takes_20 (by decide) (fun c_20 => ?_) (fun c_20 => ?_)
    · refine r_aload_n dX12_takes_27 rfl ?_
      refine r_iload_n dX12_takes_28 rfl ?_
      refine r_callV (as := [_]) okX2_many bX2 rfl ha q625 dX12_takes_29 (Nat.le_of_ble_eq_true rfl) rfl (Nat.le_of_ble_eq_true rfl) (Nat.le_of_ble_eq_true rfl) (Nat.le_of_ble_eq_true rfl) (pX2_many ha hs ?_)
      refine r_icmp_le 39 dX12_takes_32 (by decide) (fun c_32 => ?_) (fun c_32 => ?_)
      · refine r_iconst 0 dX12_takes_39 (by decide) ?_
        refine r_istore dX12_takes_40 (Nat.le_of_ble_eq_true rfl) ?_
        refine r_iload_n dX12_takes_42 rfl ?_
        refine r_iload dX12_takes_43 rfl ?_
        refine r_callSN (host := "SeenInOrderOfAge") (as := [_, _]) okX0_has (List.mem_of_getElem? (i := 6) rfl) dX12_takes_45 (Nat.le_of_ble_eq_true rfl) rfl (Nat.le_of_ble_eq_true rfl) (Nat.le_of_ble_eq_true rfl) (Nat.le_of_ble_eq_true rfl) (pX0_has ?_)
        refine r_if_eq 61 dX12_takes_48 (by decide) (fun c_48 => ?_) (fun c_48 => ?_)
        · refine r_iload_n dX12_takes_61 rfl ?_
          refine r_istore_n dX12_takes_62 (Nat.le_of_ble_eq_true rfl) ?_
          refine r_iincV dX12_takes_63 rfl (Nat.le_of_ble_eq_true rfl) (incN _) ?_
          refine r_goto 5 dX12_takes_66 (by decide) ?_
          first | exact absurd c_53 (by decide) | exact absurd rfl c_53 | (have q1 := b2i_0.mp c_48; rw [bs_f1 q1] at ih; exact ih _) | (have q1 := b2i_n.mp c_48; have q2 : (if bsF P m n = -1 then 0 else cnF P (bsF P m n)) < cnF P (nI n) := (by first | (rw [if_pos c_20]; exact Int32.not_le.mp c_32) | (rw [if_neg c_20]; exact Int32.not_le.mp c_32)); rw [bs_t q1 q2] at ih; exact ih _) | (have q2 : cnF P (nI n) ≤ (if bsF P m n = -1 then 0 else cnF P (bsF P m n)) := (by first | (rw [if_pos c_20]; exact c_32) | (rw [if_neg c_20]; exact c_32)); rw [bs_f2 q2] at ih; exact ih _)
        · refine r_iload dX12_takes_51 rfl ?_
          refine r_if_eq 61 dX12_takes_53 (by decide) (fun c_53 => ?_) (fun c_53 => ?_)
          · refine r_iload_n dX12_takes_61 rfl ?_
            refine r_istore_n dX12_takes_62 (Nat.le_of_ble_eq_true rfl) ?_
            refine r_iincV dX12_takes_63 rfl (Nat.le_of_ble_eq_true rfl) (incN _) ?_
            refine r_goto 5 dX12_takes_66 (by decide) ?_
            first | exact absurd c_53 (by decide) | exact absurd rfl c_53 | (have q1 := b2i_0.mp c_48; rw [bs_f1 q1] at ih; exact ih _) | (have q1 := b2i_n.mp c_48; have q2 : (if bsF P m n = -1 then 0 else cnF P (bsF P m n)) < cnF P (nI n) := (by first | (rw [if_pos c_20]; exact Int32.not_le.mp c_32) | (rw [if_neg c_20]; exact Int32.not_le.mp c_32)); rw [bs_t q1 q2] at ih; exact ih _) | (have q2 : cnF P (nI n) ≤ (if bsF P m n = -1 then 0 else cnF P (bsF P m n)) := (by first | (rw [if_pos c_20]; exact c_32) | (rw [if_neg c_20]; exact c_32)); rw [bs_f2 q2] at ih; exact ih _)
          · refine r_iload dX12_takes_56 rfl ?_
            refine r_goto 62 dX12_takes_58 (by decide) ?_
            refine r_istore_n dX12_takes_62 (Nat.le_of_ble_eq_true rfl) ?_
            refine r_iincV dX12_takes_63 rfl (Nat.le_of_ble_eq_true rfl) (incN _) ?_
            refine r_goto 5 dX12_takes_66 (by decide) ?_
            first | exact absurd c_53 (by decide) | exact absurd rfl c_53 | (have q1 := b2i_0.mp c_48; rw [bs_f1 q1] at ih; exact ih _) | (have q1 := b2i_n.mp c_48; have q2 : (if bsF P m n = -1 then 0 else cnF P (bsF P m n)) < cnF P (nI n) := (by first | (rw [if_pos c_20]; exact Int32.not_le.mp c_32) | (rw [if_neg c_20]; exact Int32.not_le.mp c_32)); rw [bs_t q1 q2] at ih; exact ih _) | (have q2 : cnF P (nI n) ≤ (if bsF P m n = -1 then 0 else cnF P (bsF P m n)) := (by first | (rw [if_pos c_20]; exact c_32) | (rw [if_neg c_20]; exact c_32)); rw [bs_f2 q2] at ih; exact ih _)
      · refine r_iconst 1 dX12_takes_35 (by decide) ?_
        refine r_goto 40 dX12_takes_36 (by decide) ?_
        refine r_istore dX12_takes_40 (Nat.le_of_ble_eq_true rfl) ?_
        refine r_iload_n dX12_takes_42 rfl ?_
        refine r_iload dX12_takes_43 rfl ?_
        refine r_callSN (host := "SeenInOrderOfAge") (as := [_, _]) okX0_has (List.mem_of_getElem? (i := 6) rfl) dX12_takes_45 (Nat.le_of_ble_eq_true rfl) rfl (Nat.le_of_ble_eq_true rfl) (Nat.le_of_ble_eq_true rfl) (Nat.le_of_ble_eq_true rfl) (pX0_has ?_)
        refine r_if_eq 61 dX12_takes_48 (by decide) (fun c_48 => ?_) (fun c_48 => ?_)
        · refine r_iload_n dX12_takes_61 rfl ?_
          refine r_istore_n dX12_takes_62 (Nat.le_of_ble_eq_true rfl) ?_
          refine r_iincV dX12_takes_63 rfl (Nat.le_of_ble_eq_true rfl) (incN _) ?_
          refine r_goto 5 dX12_takes_66 (by decide) ?_
          first | exact absurd c_53 (by decide) | exact absurd rfl c_53 | (have q1 := b2i_0.mp c_48; rw [bs_f1 q1] at ih; exact ih _) | (have q1 := b2i_n.mp c_48; have q2 : (if bsF P m n = -1 then 0 else cnF P (bsF P m n)) < cnF P (nI n) := (by first | (rw [if_pos c_20]; exact Int32.not_le.mp c_32) | (rw [if_neg c_20]; exact Int32.not_le.mp c_32)); rw [bs_t q1 q2] at ih; exact ih _) | (have q2 : cnF P (nI n) ≤ (if bsF P m n = -1 then 0 else cnF P (bsF P m n)) := (by first | (rw [if_pos c_20]; exact c_32) | (rw [if_neg c_20]; exact c_32)); rw [bs_f2 q2] at ih; exact ih _)
        · refine r_iload dX12_takes_51 rfl ?_
          refine r_if_eq 61 dX12_takes_53 (by decide) (fun c_53 => ?_) (fun c_53 => ?_)
          · refine r_iload_n dX12_takes_61 rfl ?_
            refine r_istore_n dX12_takes_62 (Nat.le_of_ble_eq_true rfl) ?_
            refine r_iincV dX12_takes_63 rfl (Nat.le_of_ble_eq_true rfl) (incN _) ?_
            refine r_goto 5 dX12_takes_66 (by decide) ?_
            first | exact absurd c_53 (by decide) | exact absurd rfl c_53 | (have q1 := b2i_0.mp c_48; rw [bs_f1 q1] at ih; exact ih _) | (have q1 := b2i_n.mp c_48; have q2 : (if bsF P m n = -1 then 0 else cnF P (bsF P m n)) < cnF P (nI n) := (by first | (rw [if_pos c_20]; exact Int32.not_le.mp c_32) | (rw [if_neg c_20]; exact Int32.not_le.mp c_32)); rw [bs_t q1 q2] at ih; exact ih _) | (have q2 : cnF P (nI n) ≤ (if bsF P m n = -1 then 0 else cnF P (bsF P m n)) := (by first | (rw [if_pos c_20]; exact c_32) | (rw [if_neg c_20]; exact c_32)); rw [bs_f2 q2] at ih; exact ih _)
          · refine r_iload dX12_takes_56 rfl ?_
            refine r_goto 62 dX12_takes_58 (by decide) ?_
            refine r_istore_n dX12_takes_62 (Nat.le_of_ble_eq_true rfl) ?_
            refine r_iincV dX12_takes_63 rfl (Nat.le_of_ble_eq_true rfl) (incN _) ?_
            refine r_goto 5 dX12_takes_66 (by decide) ?_
            first | exact absurd c_53 (by decide) | exact absurd rfl c_53 | (have q1 := b2i_0.mp c_48; rw [bs_f1 q1] at ih; exact ih _) | (have q1 := b2i_n.mp c_48; have q2 : (if bsF P m n = -1 then 0 else cnF P (bsF P m n)) < cnF P (nI n) := (by first | (rw [if_pos c_20]; exact Int32.not_le.mp c_32) | (rw [if_neg c_20]; exact Int32.not_le.mp c_32)); rw [bs_t q1 q2] at ih; exact ih _) | (have q2 : cnF P (nI n) ≤ (if bsF P m n = -1 then 0 else cnF P (bsF P m n)) := (by first | (rw [if_pos c_20]; exact c_32) | (rw [if_neg c_20]; exact c_32)); rw [bs_f2 q2] at ih; exact ih _)
    · refine r_iconst 0 dX12_takes_23 (by decide) ?_
      refine r_goto 32 dX12_takes_24 (by decide) ?_
      refine r_icmp_le 39 dX12_takes_32 (by decide) (fun c_32 => ?_) (fun c_32 => ?_)
      · refine r_iconst 0 dX12_takes_39 (by decide) ?_
        refine r_istore dX12_takes_40 (Nat.le_of_ble_eq_true rfl) ?_
        refine r_iload_n dX12_takes_42 rfl ?_
        refine r_iload dX12_takes_43 rfl ?_
        refine r_callSN (host := "SeenInOrderOfAge") (as := [_, _]) okX0_has (List.mem_of_getElem? (i := 6) rfl) dX12_takes_45 (Nat.le_of_ble_eq_true rfl) rfl (Nat.le_of_ble_eq_true rfl) (Nat.le_of_ble_eq_true rfl) (Nat.le_of_ble_eq_true rfl) (pX0_has ?_)
        refine r_if_eq 61 dX12_takes_48 (by decide) (fun c_48 => ?_) (fun c_48 => ?_)
        · refine r_iload_n dX12_takes_61 rfl ?_
          refine r_istore_n dX12_takes_62 (Nat.le_of_ble_eq_true rfl) ?_
          refine r_iincV dX12_takes_63 rfl (Nat.le_of_ble_eq_true rfl) (incN _) ?_
          refine r_goto 5 dX12_takes_66 (by decide) ?_
          first | exact absurd c_53 (by decide) | exact absurd rfl c_53 | (have q1 := b2i_0.mp c_48; rw [bs_f1 q1] at ih; exact ih _) | (have q1 := b2i_n.mp c_48; have q2 : (if bsF P m n = -1 then 0 else cnF P (bsF P m n)) < cnF P (nI n) := (by first | (rw [if_pos c_20]; exact Int32.not_le.mp c_32) | (rw [if_neg c_20]; exact Int32.not_le.mp c_32)); rw [bs_t q1 q2] at ih; exact ih _) | (have q2 : cnF P (nI n) ≤ (if bsF P m n = -1 then 0 else cnF P (bsF P m n)) := (by first | (rw [if_pos c_20]; exact c_32) | (rw [if_neg c_20]; exact c_32)); rw [bs_f2 q2] at ih; exact ih _)
        · refine r_iload dX12_takes_51 rfl ?_
          refine r_if_eq 61 dX12_takes_53 (by decide) (fun c_53 => ?_) (fun c_53 => ?_)
          · refine r_iload_n dX12_takes_61 rfl ?_
            refine r_istore_n dX12_takes_62 (Nat.le_of_ble_eq_true rfl) ?_
            refine r_iincV dX12_takes_63 rfl (Nat.le_of_ble_eq_true rfl) (incN _) ?_
            refine r_goto 5 dX12_takes_66 (by decide) ?_
            first | exact absurd c_53 (by decide) | exact absurd rfl c_53 | (have q1 := b2i_0.mp c_48; rw [bs_f1 q1] at ih; exact ih _) | (have q1 := b2i_n.mp c_48; have q2 : (if bsF P m n = -1 then 0 else cnF P (bsF P m n)) < cnF P (nI n) := (by first | (rw [if_pos c_20]; exact Int32.not_le.mp c_32) | (rw [if_neg c_20]; exact Int32.not_le.mp c_32)); rw [bs_t q1 q2] at ih; exact ih _) | (have q2 : cnF P (nI n) ≤ (if bsF P m n = -1 then 0 else cnF P (bsF P m n)) := (by first | (rw [if_pos c_20]; exact c_32) | (rw [if_neg c_20]; exact c_32)); rw [bs_f2 q2] at ih; exact ih _)
          · refine r_iload dX12_takes_56 rfl ?_
            refine r_goto 62 dX12_takes_58 (by decide) ?_
            refine r_istore_n dX12_takes_62 (Nat.le_of_ble_eq_true rfl) ?_
            refine r_iincV dX12_takes_63 rfl (Nat.le_of_ble_eq_true rfl) (incN _) ?_
            refine r_goto 5 dX12_takes_66 (by decide) ?_
            first | exact absurd c_53 (by decide) | exact absurd rfl c_53 | (have q1 := b2i_0.mp c_48; rw [bs_f1 q1] at ih; exact ih _) | (have q1 := b2i_n.mp c_48; have q2 : (if bsF P m n = -1 then 0 else cnF P (bsF P m n)) < cnF P (nI n) := (by first | (rw [if_pos c_20]; exact Int32.not_le.mp c_32) | (rw [if_neg c_20]; exact Int32.not_le.mp c_32)); rw [bs_t q1 q2] at ih; exact ih _) | (have q2 : cnF P (nI n) ≤ (if bsF P m n = -1 then 0 else cnF P (bsF P m n)) := (by first | (rw [if_pos c_20]; exact c_32) | (rw [if_neg c_20]; exact c_32)); rw [bs_f2 q2] at ih; exact ih _)
      · refine r_iconst 1 dX12_takes_35 (by decide) ?_
        refine r_goto 40 dX12_takes_36 (by decide) ?_
        refine r_istore dX12_takes_40 (Nat.le_of_ble_eq_true rfl) ?_
        refine r_iload_n dX12_takes_42 rfl ?_
        refine r_iload dX12_takes_43 rfl ?_
        refine r_callSN (host := "SeenInOrderOfAge") (as := [_, _]) okX0_has (List.mem_of_getElem? (i := 6) rfl) dX12_takes_45 (Nat.le_of_ble_eq_true rfl) rfl (Nat.le_of_ble_eq_true rfl) (Nat.le_of_ble_eq_true rfl) (Nat.le_of_ble_eq_true rfl) (pX0_has ?_)
        refine r_if_eq 61 dX12_takes_48 (by decide) (fun c_48 => ?_) (fun c_48 => ?_)
        · refine r_iload_n dX12_takes_61 rfl ?_
          refine r_istore_n dX12_takes_62 (Nat.le_of_ble_eq_true rfl) ?_
          refine r_iincV dX12_takes_63 rfl (Nat.le_of_ble_eq_true rfl) (incN _) ?_
          refine r_goto 5 dX12_takes_66 (by decide) ?_
          first | exact absurd c_53 (by decide) | exact absurd rfl c_53 | (have q1 := b2i_0.mp c_48; rw [bs_f1 q1] at ih; exact ih _) | (have q1 := b2i_n.mp c_48; have q2 : (if bsF P m n = -1 then 0 else cnF P (bsF P m n)) < cnF P (nI n) := (by first | (rw [if_pos c_20]; exact Int32.not_le.mp c_32) | (rw [if_neg c_20]; exact Int32.not_le.mp c_32)); rw [bs_t q1 q2] at ih; exact ih _) | (have q2 : cnF P (nI n) ≤ (if bsF P m n = -1 then 0 else cnF P (bsF P m n)) := (by first | (rw [if_pos c_20]; exact c_32) | (rw [if_neg c_20]; exact c_32)); rw [bs_f2 q2] at ih; exact ih _)
        · refine r_iload dX12_takes_51 rfl ?_
          refine r_if_eq 61 dX12_takes_53 (by decide) (fun c_53 => ?_) (fun c_53 => ?_)
          · refine r_iload_n dX12_takes_61 rfl ?_
            refine r_istore_n dX12_takes_62 (Nat.le_of_ble_eq_true rfl) ?_
            refine r_iincV dX12_takes_63 rfl (Nat.le_of_ble_eq_true rfl) (incN _) ?_
            refine r_goto 5 dX12_takes_66 (by decide) ?_
            first | exact absurd c_53 (by decide) | exact absurd rfl c_53 | (have q1 := b2i_0.mp c_48; rw [bs_f1 q1] at ih; exact ih _) | (have q1 := b2i_n.mp c_48; have q2 : (if bsF P m n = -1 then 0 else cnF P (bsF P m n)) < cnF P (nI n) := (by first | (rw [if_pos c_20]; exact Int32.not_le.mp c_32) | (rw [if_neg c_20]; exact Int32.not_le.mp c_32)); rw [bs_t q1 q2] at ih; exact ih _) | (have q2 : cnF P (nI n) ≤ (if bsF P m n = -1 then 0 else cnF P (bsF P m n)) := (by first | (rw [if_pos c_20]; exact c_32) | (rw [if_neg c_20]; exact c_32)); rw [bs_f2 q2] at ih; exact ih _)
          · refine r_iload dX12_takes_56 rfl ?_
            refine r_goto 62 dX12_takes_58 (by decide) ?_
            refine r_istore_n dX12_takes_62 (Nat.le_of_ble_eq_true rfl) ?_
            refine r_iincV dX12_takes_63 rfl (Nat.le_of_ble_eq_true rfl) (incN _) ?_
            refine r_goto 5 dX12_takes_66 (by decide) ?_
            first | exact absurd c_53 (by decide) | exact absurd rfl c_53 | (have q1 := b2i_0.mp c_48; rw [bs_f1 q1] at ih; exact ih _) | (have q1 := b2i_n.mp c_48; have q2 : (if bsF P m n = -1 then 0 else cnF P (bsF P m n)) < cnF P (nI n) := (by first | (rw [if_pos c_20]; exact Int32.not_le.mp c_32) | (rw [if_neg c_20]; exact Int32.not_le.mp c_32)); rw [bs_t q1 q2] at ih; exact ih _) | (have q2 : cnF P (nI n) ≤ (if bsF P m n = -1 then 0 else cnF P (bsF P m n)) := (by first | (rw [if_pos c_20]; exact c_32) | (rw [if_neg c_20]; exact c_32)); rw [bs_f2 q2] at ih; exact ih _)
end PP
