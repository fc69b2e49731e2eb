set_option maxRecDepth 100000
/-! the reference: window -/
section KP
variable {th kd ow ag lk co sh hs g : Nat → Int32} {my ev se : Int32}
theorem kp_th {j : Nat} (h : j < 12) : kpF th kd ow ag lk co sh hs my ev se g j = th j := by
  unfold kpF k6F
  rw [pk_un (by omega), pk_un (by omega), pk_un (by omega)]
  simp only [ovF]
  rw [if_neg (by omega), if_neg (by omega), if_neg (by omega), if_neg (by omega), if_neg (by omega), if_neg (by omega), if_neg (by omega), if_pos (by omega)]
  rfl
theorem kp_kd {j : Nat} (h : j < 8) : kpF th kd ow ag lk co sh hs my ev se g (12 + j) = kd j := by
  unfold kpF k6F
  rw [pk_un (by omega), pk_un (by omega), pk_un (by omega)]
  simp only [ovF]
  rw [if_neg (by omega), if_pos (by omega), show 12 + j - 12 = j by omega]
theorem kp_ow {j : Nat} (h : j < 8) : kpF th kd ow ag lk co sh hs my ev se g (20 + j) = ow j := by
  unfold kpF k6F
  rw [pk_un (by omega), pk_un (by omega), pk_un (by omega)]
  simp only [ovF]
  rw [if_neg (by omega), if_neg (by omega), if_pos (by omega), show 20 + j - 20 = j by omega]
theorem kp_ag {j : Nat} (h : j < 8) : kpF th kd ow ag lk co sh hs my ev se g (28 + j) = ag j := by
  unfold kpF k6F
  rw [pk_un (by omega), pk_un (by omega), pk_un (by omega)]
  simp only [ovF]
  rw [if_neg (by omega), if_neg (by omega), if_neg (by omega), if_pos (by omega), show 28 + j - 28 = j by omega]
theorem kp_lk {j : Nat} (h : j < 8) : kpF th kd ow ag lk co sh hs my ev se g (36 + j) = lk j := by
  unfold kpF k6F
  rw [pk_un (by omega), pk_un (by omega), pk_un (by omega)]
  simp only [ovF]
  rw [if_neg (by omega), if_neg (by omega), if_neg (by omega), if_neg (by omega), if_pos (by omega), show 36 + j - 36 = j by omega]
theorem kp_co {j : Nat} (h : j < 8) : kpF th kd ow ag lk co sh hs my ev se g (44 + j) = co j := by
  unfold kpF k6F
  rw [pk_un (by omega), pk_un (by omega), pk_un (by omega)]
  simp only [ovF]
  rw [if_neg (by omega), if_neg (by omega), if_neg (by omega), if_neg (by omega), if_neg (by omega), if_pos (by omega), show 44 + j - 44 = j by omega]
theorem kp_sh {j : Nat} (h : j < 8) : kpF th kd ow ag lk co sh hs my ev se g (52 + j) = sh j := by
  unfold kpF k6F
  rw [pk_un (by omega), pk_un (by omega), pk_un (by omega)]
  simp only [ovF]
  rw [if_neg (by omega), if_neg (by omega), if_neg (by omega), if_neg (by omega), if_neg (by omega), if_neg (by omega), if_pos (by omega), show 52 + j - 52 = j by omega]
theorem kp_hs {j : Nat} (h : j < 64) : kpF th kd ow ag lk co sh hs my ev se g (60 + j) = hs j := by
  unfold kpF k6F
  rw [pk_un (by omega), pk_un (by omega), pk_un (by omega)]
  simp only [ovF]
  rw [if_pos (by omega), show 60 + j - 60 = j by omega]
theorem kp_my : kpF th kd ow ag lk co sh hs my ev se g 124 = my := by
  unfold kpF
  rw [pk_un (by omega), pk_un (by omega), pk_us]
theorem kp_ev : kpF th kd ow ag lk co sh hs my ev se g 125 = ev := by
  unfold kpF
  rw [pk_un (by omega), pk_us]
theorem kp_se : kpF th kd ow ag lk co sh hs my ev se g 126 = se := by
  unfold kpF
  rw [pk_us]
theorem ov_in {f g : Nat → Int32} {n j : Nat} (h : j < n) : ovF f 0 n g j = f j := by
  simp only [ovF]
  rw [if_pos (by omega), Nat.sub_zero]
end KP
/-- the whole text from place a on, m statements told -/
def rdF (tp : Nat → Int32) (t : Nat) : Nat → WdT → Nat → Nat → Nat ⊕ (WdT × Nat)
  | 0, _, _, _ => .inl 0
  | q + 1, w, a, m => match stF tp t w (nxF tp t a 0).1 (nxF tp t a 0).2.1 (nxF tp t a 0).2.2.1 with
    | .inl p => .inl p
    | .inr (w', a1) => if (nxF tp t a1 0).2.2.1 = 101 then .inr (w', m + 1) else if (nxF tp t a1 0).2.2.1 = 59 then rdF tp t q w' (nxF tp t a1 0).2.1 (m + 1) else .inl (nxF tp t a1 0).1
theorem rdF_s (tp : Nat → Int32) (t q : Nat) (w : WdT) (a m : Nat) : rdF tp t (q + 1) w a m = match stF tp t w (nxF tp t a 0).1 (nxF tp t a 0).2.1 (nxF tp t a 0).2.2.1 with
    | .inl p => .inl p
    | .inr (w', a1) => if (nxF tp t a1 0).2.2.1 = 101 then .inr (w', m + 1) else if (nxF tp t a1 0).2.2.1 = 59 then rdF tp t q w' (nxF tp t a1 0).2.1 (m + 1) else .inl (nxF tp t a1 0).1 := rfl
/-- what a statement that is told leaves -/
theorem st_ok {tp th kd ow ag lk co sh hs th' kd' ow' ag' lk' co' sh' hs' : Nat → Int32} {t n n' f e a : Nat} {tn : Int32} (hn : n ≤ 8) (he : e ≤ t) (h : stF tp t (th, kd, ow, ag, lk, co, sh, hs, n) f e tn = .inr ((th', kd', ow', ag', lk', co', sh', hs', n'), a)) : n ≤ n' ∧ n' ≤ 8 ∧ e < a ∧ a ≤ t := by
  unfold stF at h
  dsimp only at h
  have key2 : ∀ {m1 m2 : Nat} {F : Nat → Nat → WdT}, m1 < 1000 → m2 < 1000 → (∀ x v, (F x v).2.2.2.2.2.2.2.2 = n) → (match nmF tp t e m1 with
      | none => (.inl (nxF tp t e 0).1 : Nat ⊕ (WdT × Nat))
      | some (x, a1) => match nmF tp t a1 m2 with
        | none => .inl (nxF tp t a1 0).1
        | some (v, a2) => .inr (F x v, a2)) = .inr ((th', kd', ow', ag', lk', co', sh', hs', n'), a) → n ≤ n' ∧ n' ≤ 8 ∧ e < a ∧ a ≤ t := by
    intro m1 m2 F h1 h2 hF h
    cases g : nmF tp t e m1 with
    | none => simp [g] at h
    | some y =>
      obtain ⟨x, a1⟩ := y
      obtain ⟨-, -, -, -, z1, z2⟩ := nm_some h1 he g
      simp only [g] at h
      cases g2 : nmF tp t a1 m2 with
      | none => simp [g2] at h
      | some y2 =>
        obtain ⟨v, a2⟩ := y2
        obtain ⟨-, -, -, -, z3, z4⟩ := nm_some h2 z2 g2
        simp only [g2] at h
        have e1 := Prod.mk.inj (Sum.inr.inj h)
        have e2 := hF x v
        rw [e1.1] at e2
        have e2 : n' = n := e2
        rw [← e1.2]
        omega
  split at h
  · exact key2 (m1 := 12) (m2 := 8) (F := fun x v => (upd th x (nI v), kd, ow, ag, lk, co, sh, hs, n)) (by omega) (by omega) (fun _ _ => rfl) h
  split at h
  · cases g : nmF tp t e 12 with
    | none => simp [g] at h
    | some y =>
      obtain ⟨x, a1⟩ := y
      obtain ⟨-, -, -, -, z1, z2⟩ := nm_some (by omega) he g
      simp only [g] at h
      have e1 := Prod.mk.inj (Sum.inr.inj h)
      have e2 : n = n' := congrArg (fun w : WdT => w.2.2.2.2.2.2.2.2) e1.1
      rw [← e1.2]
      omega
  split at h
  · split at h
    · cases h
    · rename_i h8
      cases g : nmF tp t e 6 with
      | none => simp [g] at h
      | some y =>
        obtain ⟨x, a1⟩ := y
        obtain ⟨-, -, -, -, z1, z2⟩ := nm_some (by omega) he g
        simp only [g] at h
        cases g2 : nmF tp t a1 8 with
        | none => simp [g2] at h
        | some y2 =>
          obtain ⟨v, a2⟩ := y2
          obtain ⟨-, -, -, -, z3, z4⟩ := nm_some (by omega) z2 g2
          simp only [g2] at h
          cases g3 : nmF tp t a2 100 with
          | none => simp [g3] at h
          | some y3 =>
            obtain ⟨u, a3⟩ := y3
            obtain ⟨-, -, -, -, z5, z6⟩ := nm_some (by omega) z4 g3
            simp only [g3] at h
            have e1 := Prod.mk.inj (Sum.inr.inj h)
            have e2 : n + 1 = n' := congrArg (fun w : WdT => w.2.2.2.2.2.2.2.2) e1.1
            rw [← e1.2]
            omega
  split at h
  · exact key2 (m1 := n) (m2 := 8) (F := fun x v => (th, kd, ow, ag, upd lk x (lk x ||| ((1 : Int32) <<< (nI v &&& 31))), co, sh, hs, n)) (by omega) (by omega) (fun _ _ => rfl) h
  split at h
  · exact key2 (m1 := n) (m2 := 13) (F := fun x v => (th, kd, ow, ag, lk, upd co x (nI v), sh, hs, n)) (by omega) (by omega) (fun _ _ => rfl) h
  split at h
  · exact key2 (m1 := n) (m2 := 8) (F := fun x v => (th, kd, ow, ag, lk, co, upd sh x (nI v), hs, n)) (by omega) (by omega) (fun _ _ => rfl) h
  cases h
section MM
variable {th kd ow ag lk co sh hs tp hd rl : Nat → Int32} {ro : Nat → Int64} {rf ol ah tr od tk fo wi ou ge mo : Nat → Int32} {my ev se td fr to tn va im lo : Int32} {r : List AC × List AC × List AC} {Q : Option Value → AHp → Prop}
theorem pX5_window {t n : Nat} (ht : t ≤ 250) (hn : n ≤ 8) (hQ0 : ∀ p to tn va, rdF tp t (t + 1) (th, kd, ow, ag, lk, co, sh, hs, n) 0 0 = .inl p → Q (some (.int (-20 - nI p))) ((mC th kd ow ag lk co sh hs tp hd rl ro (upd rf 2 (rf 2 + 1)) ol (kpF th kd ow ag lk co sh hs (nI n) ev se ah) tr od tk fo wi ou ge mo (nI n) ev se (0) (nI p) (to) (tn) (va) im lo), r)) (hQ1 : ∀ th' kd' ow' ag' lk' co' sh' hs' n' m fr to tn va, rdF tp t (t + 1) (th, kd, ow, ag, lk, co, sh, hs, n) 0 0 = .inr ((th', kd', ow', ag', lk', co', sh', hs', n'), m) → Q (some (.int (nI m))) ((mC (th') (kd') (ow') (ag') (lk') (co') (sh') (hs') tp hd rl ro rf ol (kpF th kd ow ag lk co sh hs (nI n) ev se ah) tr od tk fo wi ou ge mo (nI n') ev se (0) (fr) (to) (tn) (va) im lo), r)) : AMet mX5_window 7 0 0 [.ref 0] ((mC th kd ow ag lk co sh hs tp hd rl ro rf ol ah tr od tk fo wi ou ge mo (nI n) ev se (nI t) fr to tn va im lo), r) Q := by
  refine AMet.ofRch rfl rfl (Nat.le_of_ble_eq_true rfl) ?_
  generalize hR0 : rdF tp t (t + 1) (th, kd, ow, ag, lk, co, sh, hs, n) 0 0 = R0 at hQ0 hQ1
  generalize hAH : kpF th kd ow ag lk co sh hs (nI n) ev se ah = AH at hQ0 hQ1
  have hfail : ∀ p m th' kd' ow' ag' lk' co' sh' hs' my' to tn va b, R0 = .inl p → Rch (mX5_window, 7, 0, 0, oQ Q) 0 0 78 [some (.ref 0), some (.int m), some (.int b)] [] ((mC (th') (kd') (ow') (ag') (lk') (co') (sh') (hs') tp hd rl ro rf ol (AH) tr od tk fo wi ou ge mo (my') ev se (nI t) (nI p) (to) (tn) (va) im lo), r) := by
    intro p m th' kd' ow' ag' lk' co' sh' hs' my' to tn va b hp
    refine r_aload_n dX5_window_78 rfl ?_
    refine r_aload_n dX5_window_79 rfl ?_
    refine r_get bX5 23 (by decide) q1546 dX5_window_80 rfl rfl ?_
    refine r_callV (as := [_]) okX5_again bX5 rfl rfl q1808 dX5_window_83 (Nat.le_of_ble_eq_true rfl) rfl (Nat.le_of_ble_eq_true rfl) (Nat.le_of_ble_eq_true rfl) (Nat.le_of_ble_eq_true rfl) (pX5_againA ?_)
    rw [show AH 124 = nI n by rw [← hAH]; exact kp_my, show AH 125 = ev by rw [← hAH]; exact kp_ev, show AH 126 = se by rw [← hAH]; exact kp_se]
    refine r_norm (a := 8) (n := 12) th rfl (fun j hj => by rw [ov_in hj, ← hAH]; exact kp_th hj) ?_
    refine r_norm (a := 16) (n := 8) kd rfl (fun j hj => by rw [ov_in hj, ← hAH]; exact kp_kd hj) ?_
    refine r_norm (a := 24) (n := 8) ow rfl (fun j hj => by rw [ov_in hj, ← hAH]; exact kp_ow hj) ?_
    refine r_norm (a := 32) (n := 8) ag rfl (fun j hj => by rw [ov_in hj, ← hAH]; exact kp_ag hj) ?_
    refine r_norm (a := 40) (n := 8) lk rfl (fun j hj => by rw [ov_in hj, ← hAH]; exact kp_lk hj) ?_
    refine r_norm (a := 48) (n := 8) co rfl (fun j hj => by rw [ov_in hj, ← hAH]; exact kp_co hj) ?_
    refine r_norm (a := 56) (n := 8) sh rfl (fun j hj => by rw [ov_in hj, ← hAH]; exact kp_sh hj) ?_
    refine r_norm (a := 64) (n := 64) hs rfl (fun j hj => by rw [ov_in hj, ← hAH]; exact kp_hs hj) ?_
    show Rch _ _ _ _ _ _ ((mC th kd ow ag lk co sh hs tp hd rl ro rf ol (AH) tr od tk fo wi ou ge mo (nI n) ev se (nI t) (nI p) (to) (tn) (va) im lo), r)
    refine r_aload_n dX5_window_86 rfl ?_
    refine r_iconst 0 dX5_window_87 (by decide) ?_
    refine r_put bX5 11 (by decide) rfl q1534 dX5_window_88 rfl rfl rfl (Nat.le_of_ble_eq_true rfl) ?_
    refine r_aload_n dX5_window_91 rfl ?_
    refine r_bipush (-2) dX5_window_92 (by decide) ?_
    refine r_callV (as := [_]) okX5_no bX5 rfl rfl q1633 dX5_window_94 (Nat.le_of_ble_eq_true rfl) rfl (Nat.le_of_ble_eq_true rfl) (Nat.le_of_ble_eq_true rfl) (Nat.le_of_ble_eq_true rfl) (pX5_no 2 (by decide) (by decide) ?_)
    refine r_pop dX5_window_97 rfl ?_
    refine r_bipush (-20) dX5_window_98 (by decide) ?_
    refine r_aload_n dX5_window_100 rfl ?_
    refine r_get bX5 13 (by decide) q1536 dX5_window_101 rfl rfl ?_
    refine r_isub dX5_window_104 ?_
    exact r_iret dX5_window_105 rfl (Nat.le_of_ble_eq_true rfl) (Nat.le_of_ble_eq_true rfl) (hQ0 _ _ _ _ hp)
  have hloop : ∀ q th' kd' ow' ag' lk' co' sh' hs' n' a m fr tn va, t - a < q → a ≤ t → n' ≤ 8 → R0 = rdF tp t q (th', kd', ow', ag', lk', co', sh', hs', n') a m → Rch (mX5_window, 7, 0, 0, oQ Q) 0 0 17 [some (.ref 0), some (.int (nI m)), some (.int 1)] [] ((mC (th') (kd') (ow') (ag') (lk') (co') (sh') (hs') tp hd rl ro rf ol (AH) tr od tk fo wi ou ge mo (nI n') ev se (nI t) (fr) (nI a) (tn) (va) im lo), r) := by
    intro q
    induction q with
    | zero => intro th' kd' ow' ag' lk' co' sh' hs' n' a m fr tn va h0; omega
    | succ q ih =>
      intro th' kd' ow' ag' lk' co' sh' hs' n' a m fr tn va h0 ha hnn hrd
      rw [rdF_s] at hrd
      have hl := nx_le (tp := tp) (va := va) ha
      have hv := nx_va tp t a va
      refine r_iload_n dX5_window_17 rfl ?_
      refine r_if_eq 78 dX5_window_18 (by decide) (fun c_ => absurd c_ (by decide)) (fun _ => ?_)
      refine r_aload_n dX5_window_21 rfl ?_
      refine r_callV (as := []) okX5_next bX5 rfl rfl q1768 dX5_window_22 (Nat.le_of_ble_eq_true rfl) rfl (Nat.le_of_ble_eq_true rfl) (Nat.le_of_ble_eq_true rfl) (Nat.le_of_ble_eq_true rfl) (pX5_next ht ha ?_)
      rw [hv.1, hv.2.1] at hl ⊢
      rw [hv.2.2.1]
      refine r_aload_n dX5_window_25 rfl ?_
      refine r_callV (as := []) okX5_statement bX5 rfl rfl q1778 dX5_window_26 (Nat.le_of_ble_eq_true rfl) rfl (Nat.le_of_ble_eq_true rfl) (Nat.le_of_ble_eq_true rfl) (Nat.le_of_ble_eq_true rfl) (pX5_statement ht hnn hl.2.1 hl.2.2.1 (fun p to tn va hst => ?_) (fun th2 kd2 ow2 ag2 lk2 co2 sh2 hs2 n2 a2 fr tn va hst => ?_))
      · rw [hst] at hrd
        refine r_istore_n dX5_window_29 (Nat.le_of_ble_eq_true rfl) ?_
        refine r_iload_n dX5_window_30 rfl ?_
        refine r_if_ne 37 dX5_window_31 (by decide) (fun c_ => absurd (rfl) c_) (fun _ => ?_)
        refine r_goto 17 dX5_window_34 (by decide) ?_
        refine r_iload_n dX5_window_17 rfl ?_
        refine r_if_eq 78 dX5_window_18 (by decide) (fun _ => ?_) (fun c_ => absurd (rfl) c_)
        exact hfail _ _ _ _ _ _ _ _ _ _ _ _ _ _ _ hrd
      · rw [hst] at hrd
        have hrd : R0 = if (nxF tp t a2 0).2.2.1 = 101 then .inr ((th2, kd2, ow2, ag2, lk2, co2, sh2, hs2, n2), m + 1) else if (nxF tp t a2 0).2.2.1 = 59 then rdF tp t q (th2, kd2, ow2, ag2, lk2, co2, sh2, hs2, n2) (nxF tp t a2 0).2.1 (m + 1) else .inl (nxF tp t a2 0).1 := hrd
        obtain ⟨k1, k2, k3, k4⟩ := st_ok hnn hl.2.2.1 hst
        have hl2 := nx_le (tp := tp) (va := va) k4
        have hv2 := nx_va tp t a2 va
        refine r_istore_n dX5_window_29 (Nat.le_of_ble_eq_true rfl) ?_
        refine r_iload_n dX5_window_30 rfl ?_
        refine r_if_ne 37 dX5_window_31 (by decide) (fun _ => ?_) (fun c_ => absurd c_ (by decide))
        refine r_iincV dX5_window_37 rfl (Nat.le_of_ble_eq_true rfl) (incN _) ?_
        refine r_aload_n dX5_window_40 rfl ?_
        refine r_callV (as := []) okX5_next bX5 rfl rfl q1768 dX5_window_41 (Nat.le_of_ble_eq_true rfl) rfl (Nat.le_of_ble_eq_true rfl) (Nat.le_of_ble_eq_true rfl) (Nat.le_of_ble_eq_true rfl) (pX5_next ht k4 ?_)
        rw [hv2.1, hv2.2.1] at hl2 ⊢
        rw [hv2.2.2.1] at hl2 ⊢
        by_cases g1 : (nxF tp t a2 0).2.2.1 = 101
        · rw [if_pos g1] at hrd
          refine r_aload_n dX5_window_44 rfl ?_
          refine r_get bX5 15 (by decide) q1538 dX5_window_45 rfl rfl ?_
          refine r_bipush 101 dX5_window_48 (by decide) ?_
          refine r_icmp_ne 60 dX5_window_50 (by decide) (fun c_ => absurd (g1) c_) (fun _ => ?_)
          refine r_aload_n dX5_window_53 rfl ?_
          refine r_iconst 0 dX5_window_54 (by decide) ?_
          refine r_put bX5 11 (by decide) rfl q1534 dX5_window_55 rfl rfl rfl (Nat.le_of_ble_eq_true rfl) ?_
          refine r_iload_n dX5_window_58 rfl ?_
          exact r_iret dX5_window_59 rfl (Nat.le_of_ble_eq_true rfl) (Nat.le_of_ble_eq_true rfl) (hQ1 _ _ _ _ _ _ _ _ _ _ _ _ _ _ hrd)
        · rw [if_neg g1] at hrd
          by_cases g2 : (nxF tp t a2 0).2.2.1 = 59
          · rw [if_pos g2] at hrd
            refine r_aload_n dX5_window_44 rfl ?_
            refine r_get bX5 15 (by decide) q1538 dX5_window_45 rfl rfl ?_
            refine r_bipush 101 dX5_window_48 (by decide) ?_
            refine r_icmp_ne 60 dX5_window_50 (by decide) (fun _ => ?_) (fun c_ => absurd c_ (g1))
            refine r_aload_n dX5_window_60 rfl ?_
            refine r_get bX5 15 (by decide) q1538 dX5_window_61 rfl rfl ?_
            refine r_bipush 59 dX5_window_64 (by decide) ?_
            refine r_icmp_ne 73 dX5_window_66 (by decide) (fun c_ => absurd (g2) c_) (fun _ => ?_)
            refine r_iconst 1 dX5_window_69 (by decide) ?_
            refine r_goto 74 dX5_window_70 (by decide) ?_
            refine r_istore_n dX5_window_74 (Nat.le_of_ble_eq_true rfl) ?_
            refine r_goto 17 dX5_window_75 (by decide) ?_
            exact ih _ _ _ _ _ _ _ _ _ _ _ _ _ _ (by omega) hl2.2.2.1 k2 hrd
          · rw [if_neg g2] at hrd
            refine r_aload_n dX5_window_44 rfl ?_
            refine r_get bX5 15 (by decide) q1538 dX5_window_45 rfl rfl ?_
            refine r_bipush 101 dX5_window_48 (by decide) ?_
            refine r_icmp_ne 60 dX5_window_50 (by decide) (fun _ => ?_) (fun c_ => absurd c_ (g1))
            refine r_aload_n dX5_window_60 rfl ?_
            refine r_get bX5 15 (by decide) q1538 dX5_window_61 rfl rfl ?_
            refine r_bipush 59 dX5_window_64 (by decide) ?_
            refine r_icmp_ne 73 dX5_window_66 (by decide) (fun _ => ?_) (fun c_ => absurd c_ (g2))
            refine r_iconst 0 dX5_window_73 (by decide) ?_
            refine r_istore_n dX5_window_74 (Nat.le_of_ble_eq_true rfl) ?_
            refine r_goto 17 dX5_window_75 (by decide) ?_
            refine r_iload_n dX5_window_17 rfl ?_
            refine r_if_eq 78 dX5_window_18 (by decide) (fun _ => ?_) (fun c_ => absurd (rfl) c_)
            exact hfail _ _ _ _ _ _ _ _ _ _ _ _ _ _ _ hrd
  refine r_aload_n dX5_window_0 rfl ?_
  refine r_aload_n dX5_window_1 rfl ?_
  refine r_get bX5 23 (by decide) q1546 dX5_window_2 rfl rfl ?_
  refine r_callV (as := [_]) okX5_keep bX5 rfl rfl q1764 dX5_window_5 (Nat.le_of_ble_eq_true rfl) rfl (Nat.le_of_ble_eq_true rfl) (Nat.le_of_ble_eq_true rfl) (Nat.le_of_ble_eq_true rfl) (pX5_keepA ?_)
  refine r_aload_n dX5_window_8 rfl ?_
  refine r_iconst 0 dX5_window_9 (by decide) ?_
  refine r_put bX5 14 (by decide) rfl q1537 dX5_window_10 rfl rfl rfl (Nat.le_of_ble_eq_true rfl) ?_
  refine r_iconst 0 dX5_window_13 (by decide) ?_
  refine r_istore_n dX5_window_14 (Nat.le_of_ble_eq_true rfl) ?_
  refine r_iconst 1 dX5_window_15 (by decide) ?_
  refine r_istore_n dX5_window_16 (Nat.le_of_ble_eq_true rfl) ?_
  rw [hAH]
  exact hloop (t + 1) _ _ _ _ _ _ _ _ _ 0 0 _ _ _ (by omega) (by omega) hn hR0.symm
end MM
