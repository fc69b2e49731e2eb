set_option maxRecDepth 100000
/-! the reference: the tape is read -/
def letB (c : Int32) : Bool := inB c 97 122
def digB (c : Int32) : Bool := inB c 48 57
def spB (c : Int32) : Bool := c == 32
def skG (tp : Nat → Int32) (c : Int32 → Bool) : Nat → Nat → Nat
  | 0, i => i
  | q + 1, i => if c (tp i) = true then skG tp c q (i + 1) else i
def skT (tp : Nat → Int32) (c : Int32 → Bool) (t i : Nat) : Nat := skG tp c (t - i) i
theorem sk_t {tp : Nat → Int32} {c : Int32 → Bool} {t i : Nat} (h : i < t) (hc : c (tp i) = true) : skT tp c t i = skT tp c t (i + 1) := by
  unfold skT
  rw [show t - i = (t - (i + 1)) + 1 by omega, skG, if_pos hc]
theorem sk_f {tp : Nat → Int32} {c : Int32 → Bool} {t i : Nat} (h : i < t) (hc : ¬ c (tp i) = true) : skT tp c t i = i := by
  unfold skT
  rw [show t - i = (t - (i + 1)) + 1 by omega, skG, if_neg hc]
theorem sk_e {tp : Nat → Int32} {c : Int32 → Bool} {t : Nat} : skT tp c t t = t := by
  unfold skT
  rw [Nat.sub_self, skG]
def dgG (tp : Nat → Int32) (f : Nat) : Nat → Nat → Int32 → Nat × Int32
  | 0, i, v => (i, v)
  | q + 1, i, v => if digB (tp i) = true then dgG tp f q (i + 1) (if nI i - nI f < 2 then 10 * v + tp i - 48 else v) else (i, v)
theorem dgG_s (tp : Nat → Int32) (f q i : Nat) (v : Int32) : dgG tp f (q + 1) i v = if digB (tp i) = true then dgG tp f q (i + 1) (if nI i - nI f < 2 then 10 * v + tp i - 48 else v) else (i, v) := rfl
/-- one token from place i on, blanks skipped: from, to, kind, value -/
def tkN (tp : Nat → Int32) (t i : Nat) (va : Int32) : Nat × Nat × Int32 × Int32 :=
  if i = t then (i, i, 101, va) else if letB (tp i) = true then (i, skT tp letB t (i + 1), 119, va) else if digB (tp i) = true then (i, (dgG tp i (t - (i + 1)) (i + 1) (tp i - 48)).1, (if 2 < nI (dgG tp i (t - (i + 1)) (i + 1) (tp i - 48)).1 - nI i then 120 else 48), (dgG tp i (t - (i + 1)) (i + 1) (tp i - 48)).2) else (i, i + 1, (if tp i = 59 then 59 else 120), va)
def nxF (tp : Nat → Int32) (t a : Nat) (va : Int32) : Nat × Nat × Int32 × Int32 := tkN tp t (skT tp spB t a) va
section MM
variable {th kd ow ag lk co sh hs tp hd rl : Nat → Int32} {ro : Nat → Int64} {rf ol ah tr od tk fo wi ou ge mo : Nat → Int32} {my ev se td fr to tn va im lo : Int32} {r : List AC × List AC × List AC} {Q : Option Value → AHp → Prop}
variable {n : Nat} {kN : Nat → Nat}
theorem pX5_isLetter {h : AHp} {c : Int32} (hQ : Q (some (.int (b2i (letB c)))) h) : AMet mX5_isLetter 1 0 0 [.int c] h Q := by
  refine AMet.ofRch rfl rfl (Nat.le_of_ble_eq_true rfl) ?_
  refine r_iload_n dX5_isLetter_0 rfl ?_
  refine r_bipush 97 dX5_isLetter_1 (by decide) ?_
  refine r_icmp_lt 16 dX5_isLetter_3 (by decide) (fun c_3 => ?_) (fun c_3 => ?_)
  · refine r_iconst 0 dX5_isLetter_16 (by decide) ?_
    exact r_zret (ty := .boolean) dX5_isLetter_17 rfl (rfl) (Nat.le_of_ble_eq_true rfl) (Nat.le_of_ble_eq_true rfl) (qi (by first | (have q1 := Int32.not_le.mpr c_3; simp [b2i, letB, inB, q1]) | (have q1 := Int32.not_le.mpr c_9; simp [b2i, letB, inB, q1]) | (have q1 := Int32.not_lt.mp c_3; have q2 := Int32.not_lt.mp c_9; simp [b2i, letB, inB, q1, q2])) hQ)
  · refine r_iload_n dX5_isLetter_6 rfl ?_
    refine r_bipush 122 dX5_isLetter_7 (by decide) ?_
    refine r_icmp_gt 16 dX5_isLetter_9 (by decide) (fun c_9 => ?_) (fun c_9 => ?_)
    · refine r_iconst 0 dX5_isLetter_16 (by decide) ?_
      exact r_zret (ty := .boolean) dX5_isLetter_17 rfl (rfl) (Nat.le_of_ble_eq_true rfl) (Nat.le_of_ble_eq_true rfl) (qi (by first | (have q1 := Int32.not_le.mpr c_3; simp [b2i, letB, inB, q1]) | (have q1 := Int32.not_le.mpr c_9; simp [b2i, letB, inB, q1]) | (have q1 := Int32.not_lt.mp c_3; have q2 := Int32.not_lt.mp c_9; simp [b2i, letB, inB, q1, q2])) hQ)
    · refine r_iconst 1 dX5_isLetter_12 (by decide) ?_
      refine r_goto 17 dX5_isLetter_13 (by decide) ?_
      exact r_zret (ty := .boolean) dX5_isLetter_17 rfl (rfl) (Nat.le_of_ble_eq_true rfl) (Nat.le_of_ble_eq_true rfl) (qi (by first | (have q1 := Int32.not_le.mpr c_3; simp [b2i, letB, inB, q1]) | (have q1 := Int32.not_le.mpr c_9; simp [b2i, letB, inB, q1]) | (have q1 := Int32.not_lt.mp c_3; have q2 := Int32.not_lt.mp c_9; simp [b2i, letB, inB, q1, q2])) hQ)
theorem pX5_isDigit {h : AHp} {c : Int32} (hQ : Q (some (.int (b2i (digB c)))) h) : AMet mX5_isDigit 1 0 0 [.int c] h Q := by
  refine AMet.ofRch rfl rfl (Nat.le_of_ble_eq_true rfl) ?_
  refine r_iload_n dX5_isDigit_0 rfl ?_
  refine r_bipush 48 dX5_isDigit_1 (by decide) ?_
  refine r_icmp_lt 16 dX5_isDigit_3 (by decide) (fun c_3 => ?_) (fun c_3 => ?_)
  · refine r_iconst 0 dX5_isDigit_16 (by decide) ?_
    exact r_zret (ty := .boolean) dX5_isDigit_17 rfl (rfl) (Nat.le_of_ble_eq_true rfl) (Nat.le_of_ble_eq_true rfl) (qi (by first | (have q1 := Int32.not_le.mpr c_3; simp [b2i, digB, inB, q1]) | (have q1 := Int32.not_le.mpr c_9; simp [b2i, digB, inB, q1]) | (have q1 := Int32.not_lt.mp c_3; have q2 := Int32.not_lt.mp c_9; simp [b2i, digB, inB, q1, q2])) hQ)
  · refine r_iload_n dX5_isDigit_6 rfl ?_
    refine r_bipush 57 dX5_isDigit_7 (by decide) ?_
    refine r_icmp_gt 16 dX5_isDigit_9 (by decide) (fun c_9 => ?_) (fun c_9 => ?_)
    · refine r_iconst 0 dX5_isDigit_16 (by decide) ?_
      exact r_zret (ty := .boolean) dX5_isDigit_17 rfl (rfl) (Nat.le_of_ble_eq_true rfl) (Nat.le_of_ble_eq_true rfl) (qi (by first | (have q1 := Int32.not_le.mpr c_3; simp [b2i, digB, inB, q1]) | (have q1 := Int32.not_le.mpr c_9; simp [b2i, digB, inB, q1]) | (have q1 := Int32.not_lt.mp c_3; have q2 := Int32.not_lt.mp c_9; simp [b2i, digB, inB, q1, q2])) hQ)
    · refine r_iconst 1 dX5_isDigit_12 (by decide) ?_
      refine r_goto 17 dX5_isDigit_13 (by decide) ?_
      exact r_zret (ty := .boolean) dX5_isDigit_17 rfl (rfl) (Nat.le_of_ble_eq_true rfl) (Nat.le_of_ble_eq_true rfl) (qi (by first | (have q1 := Int32.not_le.mpr c_3; simp [b2i, digB, inB, q1]) | (have q1 := Int32.not_le.mpr c_9; simp [b2i, digB, inB, q1]) | (have q1 := Int32.not_lt.mp c_3; have q2 := Int32.not_lt.mp c_9; simp [b2i, digB, inB, q1, q2])) hQ)
theorem pX5_next {t a : Nat} (ht : t ≤ 250) (ha : a ≤ t) (hQ : Q none ((mC th kd ow ag lk co sh hs tp hd rl ro rf ol ah tr od tk fo wi ou ge mo my ev se (nI t) (nI (nxF tp t a va).1) (nI (nxF tp t a va).2.1) ((nxF tp t a va).2.2.1) ((nxF tp t a va).2.2.2) im lo), r)) : AMet mX5_next 2 0 0 [.ref 0] ((mC th kd ow ag lk co sh hs tp hd rl ro rf ol ah tr od tk fo wi ou ge mo my ev se (nI t) fr (nI a) tn va im lo), r) Q := by
  refine AMet.ofRch rfl rfl (Nat.le_of_ble_eq_true rfl) ?_
  have htok : ∀ i, i ≤ t → skT tp spB t a = i → ∀ to, Rch (mX5_next, 2, 0, 0, oQ Q) 0 0 46 [some (.ref 0), none] [] ((mC th kd ow ag lk co sh hs tp hd rl ro rf ol ah tr od tk fo wi ou ge mo my ev se (nI t) (nI i) (to) tn va im lo), r) := by
    intro i hi e to
    unfold nxF at hQ
    rw [e] at hQ
    unfold tkN at hQ
    by_cases g : i = t
    · subst g
      rw [if_pos rfl] at hQ
      refine r_aload_n dX5_next_46 rfl ?_
      refine r_aload_n dX5_next_47 rfl ?_
      refine r_get bX5 13 (by decide) q1536 dX5_next_48 rfl rfl ?_
      refine r_put bX5 14 (by decide) rfl q1537 dX5_next_51 rfl rfl rfl (Nat.le_of_ble_eq_true rfl) ?_
      refine r_aload_n dX5_next_54 rfl ?_
      refine r_get bX5 13 (by decide) q1536 dX5_next_55 rfl rfl ?_
      refine r_aload_n dX5_next_58 rfl ?_
      refine r_get bX5 11 (by decide) q1534 dX5_next_59 rfl rfl ?_
      refine r_icmp_ne 72 dX5_next_62 (by decide) (fun c_ => absurd (rfl) c_) (fun _ => ?_)
      refine r_aload_n dX5_next_65 rfl ?_
      refine r_bipush 101 dX5_next_66 (by decide) ?_
      refine r_put bX5 15 (by decide) rfl q1538 dX5_next_68 rfl rfl rfl (Nat.le_of_ble_eq_true rfl) ?_
      exact r_vret dX5_next_71 rfl (Nat.le_of_ble_eq_true rfl) (Nat.le_of_ble_eq_true rfl) (hQ)
    · rw [if_neg g] at hQ
      have g1 : i < t := by omega
      have H262 : letB (tp i) = false → digB (tp i) = false → Rch (mX5_next, 2, 0, 0, oQ Q) 0 0 262 [some (.ref 0), some (.int (tp i))] [] ((mC th kd ow ag lk co sh hs tp hd rl ro rf ol ah tr od tk fo wi ou ge mo my ev se (nI t) (nI i) (nI (i + 1)) tn va im lo), r) := by
        intro c1 c2
        rw [if_neg (by rw [c1]; decide), if_neg (by rw [c2]; decide)] at hQ
        by_cases g3 : tp i = 59
        · rw [if_pos g3] at hQ
          refine r_aload_n dX5_next_262 rfl ?_
          refine r_iload_n dX5_next_263 rfl ?_
          refine r_bipush 59 dX5_next_264 (by decide) ?_
          refine r_icmp_ne 274 dX5_next_266 (by decide) (fun c_ => absurd (g3) c_) (fun _ => ?_)
          refine r_bipush 59 dX5_next_269 (by decide) ?_
          refine r_goto 276 dX5_next_271 (by decide) ?_
          refine r_put bX5 15 (by decide) rfl q1538 dX5_next_276 rfl rfl rfl (Nat.le_of_ble_eq_true rfl) ?_
          exact r_vret dX5_next_279 rfl (Nat.le_of_ble_eq_true rfl) (Nat.le_of_ble_eq_true rfl) (hQ)
        · rw [if_neg g3] at hQ
          refine r_aload_n dX5_next_262 rfl ?_
          refine r_iload_n dX5_next_263 rfl ?_
          refine r_bipush 59 dX5_next_264 (by decide) ?_
          refine r_icmp_ne 274 dX5_next_266 (by decide) (fun _ => ?_) (fun c_ => absurd c_ (g3))
          refine r_bipush 120 dX5_next_274 (by decide) ?_
          refine r_put bX5 15 (by decide) rfl q1538 dX5_next_276 rfl rfl rfl (Nat.le_of_ble_eq_true rfl) ?_
          exact r_vret dX5_next_279 rfl (Nat.le_of_ble_eq_true rfl) (Nat.le_of_ble_eq_true rfl) (hQ)
      have H151 : letB (tp i) = false → digB (tp i) = true → Rch (mX5_next, 2, 0, 0, oQ Q) 0 0 151 [some (.ref 0), some (.int (tp i))] [] ((mC th kd ow ag lk co sh hs tp hd rl ro rf ol ah tr od tk fo wi ou ge mo my ev se (nI t) (nI i) (nI (i + 1)) tn va im lo), r) := by
        intro c1 c2
        rw [if_neg (by rw [c1]; decide), if_pos c2] at hQ
        refine r_aload_n dX5_next_151 rfl ?_
        refine r_iload_n dX5_next_152 rfl ?_
        refine r_bipush 48 dX5_next_153 (by decide) ?_
        refine r_isub dX5_next_155 ?_
        refine r_put bX5 16 (by decide) rfl q1539 dX5_next_156 rfl rfl rfl (Nat.le_of_ble_eq_true rfl) ?_
        generalize hD : dgG tp i (t - (i + 1)) (i + 1) (tp i - 48) = D at hQ
        have hfin : ∀ z v, z ≤ t → D = (z, v) → Rch (mX5_next, 2, 0, 0, oQ Q) 0 0 235 [some (.ref 0), some (.int (tp i))] [] ((mC th kd ow ag lk co sh hs tp hd rl ro rf ol ah tr od tk fo wi ou ge mo my ev se (nI t) (nI i) (nI z) tn (v) im lo), r) := by
          intro z v hz eD
          rw [eD] at hQ
          by_cases g4 : 2 < nI z - nI i
          · have hQ : Q none ((mC th kd ow ag lk co sh hs tp hd rl ro rf ol ah tr od tk fo wi ou ge mo my ev se (nI t) (nI i) (nI z) (if 2 < nI z - nI i then 120 else 48) (v) im lo), r) := hQ
            rw [if_pos g4] at hQ
            refine r_aload_n dX5_next_235 rfl ?_
            refine r_aload_n dX5_next_236 rfl ?_
            refine r_get bX5 14 (by decide) q1537 dX5_next_237 rfl rfl ?_
            refine r_aload_n dX5_next_240 rfl ?_
            refine r_get bX5 13 (by decide) q1536 dX5_next_241 rfl rfl ?_
            refine r_isub dX5_next_244 ?_
            refine r_iconst 2 dX5_next_245 (by decide) ?_
            refine r_icmp_le 254 dX5_next_246 (by decide) (fun c_ => absurd c_ (Int32.not_le.mpr g4)) (fun _ => ?_)
            refine r_bipush 120 dX5_next_249 (by decide) ?_
            refine r_goto 256 dX5_next_251 (by decide) ?_
            refine r_put bX5 15 (by decide) rfl q1538 dX5_next_256 rfl rfl rfl (Nat.le_of_ble_eq_true rfl) ?_
            refine r_goto 279 dX5_next_259 (by decide) ?_
            exact r_vret dX5_next_279 rfl (Nat.le_of_ble_eq_true rfl) (Nat.le_of_ble_eq_true rfl) (hQ)
          · have hQ : Q none ((mC th kd ow ag lk co sh hs tp hd rl ro rf ol ah tr od tk fo wi ou ge mo my ev se (nI t) (nI i) (nI z) (if 2 < nI z - nI i then 120 else 48) (v) im lo), r) := hQ
            rw [if_neg g4] at hQ
            refine r_aload_n dX5_next_235 rfl ?_
            refine r_aload_n dX5_next_236 rfl ?_
            refine r_get bX5 14 (by decide) q1537 dX5_next_237 rfl rfl ?_
            refine r_aload_n dX5_next_240 rfl ?_
            refine r_get bX5 13 (by decide) q1536 dX5_next_241 rfl rfl ?_
            refine r_isub dX5_next_244 ?_
            refine r_iconst 2 dX5_next_245 (by decide) ?_
            refine r_icmp_le 254 dX5_next_246 (by decide) (fun _ => ?_) (fun c_ => absurd (Int32.not_lt.mp g4) c_)
            refine r_bipush 48 dX5_next_254 (by decide) ?_
            refine r_put bX5 15 (by decide) rfl q1538 dX5_next_256 rfl rfl rfl (Nat.le_of_ble_eq_true rfl) ?_
            refine r_goto 279 dX5_next_259 (by decide) ?_
            exact r_vret dX5_next_279 rfl (Nat.le_of_ble_eq_true rfl) (Nat.le_of_ble_eq_true rfl) (hQ)
        refine loopFrom (N := t) (P := fun k => ∀ v, dgG tp i (t - k) k v = D → Rch (mX5_next, 2, 0, 0, oQ Q) 0 0 159 [some (.ref 0), some (.int (tp i))] [] ((mC th kd ow ag lk co sh hs tp hd rl ro rf ol ah tr od tk fo wi ou ge mo my ev se (nI t) (nI i) (nI k) tn (v) im lo), r)) (i + 1) (by omega) ?_ ?_ _ hD
        · intro v eD
          rw [Nat.sub_self, dgG] at eD
          refine r_aload_n dX5_next_159 rfl ?_
          refine r_get bX5 14 (by decide) q1537 dX5_next_160 rfl rfl ?_
          refine r_aload_n dX5_next_163 rfl ?_
          refine r_get bX5 11 (by decide) q1534 dX5_next_164 rfl rfl ?_
          refine r_icmp_ge 235 dX5_next_167 (by decide) (fun _ => ?_) (fun c_ => absurd (Int32.le_refl _) c_)
          exact hfin t v (Nat.le_refl _) eD.symm
        · intro k hk1 hk2 ih v eD
          rw [show t - k = (t - (k + 1)) + 1 by omega, dgG_s] at eD
          by_cases g5 : digB (tp k) = true
          · rw [if_pos g5] at eD
            by_cases g6 : nI k - nI i < 2
            · rw [if_pos g6] at eD
              refine r_aload_n dX5_next_159 rfl ?_
              refine r_get bX5 14 (by decide) q1537 dX5_next_160 rfl rfl ?_
              refine r_aload_n dX5_next_163 rfl ?_
              refine r_get bX5 11 (by decide) q1534 dX5_next_164 rfl rfl ?_
              refine r_icmp_ge 235 dX5_next_167 (by decide) (fun c_ => absurd c_ (geF hk2 (by omega))) (fun _ => ?_)
              refine r_aload_n dX5_next_170 rfl ?_
              refine r_get bX5 12 (by decide) q1535 dX5_next_171 rfl rfl ?_
              refine r_aload_n dX5_next_174 rfl ?_
              refine r_get bX5 14 (by decide) q1537 dX5_next_175 rfl rfl ?_
              refine r_ialdN dX5_next_178 rfl (by omega) (Nat.le_of_ble_eq_true rfl) ?_
              refine r_callS (as := [_]) okX5_isDigit q1775 dX5_next_179 (Nat.le_of_ble_eq_true rfl) rfl (Nat.le_of_ble_eq_true rfl) (Nat.le_of_ble_eq_true rfl) (Nat.le_of_ble_eq_true rfl) (pX5_isDigit ?_)
              refine r_if_eq 235 dX5_next_182 (by decide) (fun c_ => absurd c_ (b2i_n.mpr g5)) (fun _ => ?_)
              refine r_aload_n dX5_next_185 rfl ?_
              refine r_get bX5 14 (by decide) q1537 dX5_next_186 rfl rfl ?_
              refine r_aload_n dX5_next_189 rfl ?_
              refine r_get bX5 13 (by decide) q1536 dX5_next_190 rfl rfl ?_
              refine r_isub dX5_next_193 ?_
              refine r_iconst 2 dX5_next_194 (by decide) ?_
              refine r_icmp_ge 222 dX5_next_195 (by decide) (fun c_ => absurd c_ (Int32.not_le.mpr g6)) (fun _ => ?_)
              refine r_aload_n dX5_next_198 rfl ?_
              refine r_bipush 10 dX5_next_199 (by decide) ?_
              refine r_aload_n dX5_next_201 rfl ?_
              refine r_get bX5 16 (by decide) q1539 dX5_next_202 rfl rfl ?_
              refine r_imul dX5_next_205 ?_
              refine r_aload_n dX5_next_206 rfl ?_
              refine r_get bX5 12 (by decide) q1535 dX5_next_207 rfl rfl ?_
              refine r_aload_n dX5_next_210 rfl ?_
              refine r_get bX5 14 (by decide) q1537 dX5_next_211 rfl rfl ?_
              refine r_ialdN dX5_next_214 rfl (by omega) (Nat.le_of_ble_eq_true rfl) ?_
              refine r_iadd dX5_next_215 ?_
              refine r_bipush 48 dX5_next_216 (by decide) ?_
              refine r_isub dX5_next_218 ?_
              refine r_put bX5 16 (by decide) rfl q1539 dX5_next_219 rfl rfl rfl (Nat.le_of_ble_eq_true rfl) ?_
              refine r_aload_n dX5_next_222 rfl ?_
              refine r_dup dX5_next_223 rfl ?_
              refine r_get bX5 14 (by decide) q1537 dX5_next_224 rfl rfl ?_
              refine r_iconst 1 dX5_next_227 (by decide) ?_
              refine r_iadd dX5_next_228 ?_
              rw [nI_1]
              refine r_put bX5 14 (by decide) rfl q1537 dX5_next_229 rfl rfl rfl (Nat.le_of_ble_eq_true rfl) ?_
              refine r_goto 159 dX5_next_232 (by decide) ?_
              exact ih _ eD
            · rw [if_neg g6] at eD
              refine r_aload_n dX5_next_159 rfl ?_
              refine r_get bX5 14 (by decide) q1537 dX5_next_160 rfl rfl ?_
              refine r_aload_n dX5_next_163 rfl ?_
              refine r_get bX5 11 (by decide) q1534 dX5_next_164 rfl rfl ?_
              refine r_icmp_ge 235 dX5_next_167 (by decide) (fun c_ => absurd c_ (geF hk2 (by omega))) (fun _ => ?_)
              refine r_aload_n dX5_next_170 rfl ?_
              refine r_get bX5 12 (by decide) q1535 dX5_next_171 rfl rfl ?_
              refine r_aload_n dX5_next_174 rfl ?_
              refine r_get bX5 14 (by decide) q1537 dX5_next_175 rfl rfl ?_
              refine r_ialdN dX5_next_178 rfl (by omega) (Nat.le_of_ble_eq_true rfl) ?_
              refine r_callS (as := [_]) okX5_isDigit q1775 dX5_next_179 (Nat.le_of_ble_eq_true rfl) rfl (Nat.le_of_ble_eq_true rfl) (Nat.le_of_ble_eq_true rfl) (Nat.le_of_ble_eq_true rfl) (pX5_isDigit ?_)
              refine r_if_eq 235 dX5_next_182 (by decide) (fun c_ => absurd c_ (b2i_n.mpr g5)) (fun _ => ?_)
              refine r_aload_n dX5_next_185 rfl ?_
              refine r_get bX5 14 (by decide) q1537 dX5_next_186 rfl rfl ?_
              refine r_aload_n dX5_next_189 rfl ?_
              refine r_get bX5 13 (by decide) q1536 dX5_next_190 rfl rfl ?_
              refine r_isub dX5_next_193 ?_
              refine r_iconst 2 dX5_next_194 (by decide) ?_
              refine r_icmp_ge 222 dX5_next_195 (by decide) (fun _ => ?_) (fun c_ => absurd (Int32.not_lt.mp g6) c_)
              refine r_aload_n dX5_next_222 rfl ?_
              refine r_dup dX5_next_223 rfl ?_
              refine r_get bX5 14 (by decide) q1537 dX5_next_224 rfl rfl ?_
              refine r_iconst 1 dX5_next_227 (by decide) ?_
              refine r_iadd dX5_next_228 ?_
              rw [nI_1]
              refine r_put bX5 14 (by decide) rfl q1537 dX5_next_229 rfl rfl rfl (Nat.le_of_ble_eq_true rfl) ?_
              refine r_goto 159 dX5_next_232 (by decide) ?_
              exact ih _ eD
          · rw [if_neg g5] at eD
            refine r_aload_n dX5_next_159 rfl ?_
            refine r_get bX5 14 (by decide) q1537 dX5_next_160 rfl rfl ?_
            refine r_aload_n dX5_next_163 rfl ?_
            refine r_get bX5 11 (by decide) q1534 dX5_next_164 rfl rfl ?_
            refine r_icmp_ge 235 dX5_next_167 (by decide) (fun c_ => absurd c_ (geF hk2 (by omega))) (fun _ => ?_)
            refine r_aload_n dX5_next_170 rfl ?_
            refine r_get bX5 12 (by decide) q1535 dX5_next_171 rfl rfl ?_
            refine r_aload_n dX5_next_174 rfl ?_
            refine r_get bX5 14 (by decide) q1537 dX5_next_175 rfl rfl ?_
            refine r_ialdN dX5_next_178 rfl (by omega) (Nat.le_of_ble_eq_true rfl) ?_
            refine r_callS (as := [_]) okX5_isDigit q1775 dX5_next_179 (Nat.le_of_ble_eq_true rfl) rfl (Nat.le_of_ble_eq_true rfl) (Nat.le_of_ble_eq_true rfl) (Nat.le_of_ble_eq_true rfl) (pX5_isDigit ?_)
            refine r_if_eq 235 dX5_next_182 (by decide) (fun _ => ?_) (fun c_ => absurd (b2i_0.mpr (by simpa using g5)) c_)
            exact hfin k v (by omega) eD.symm
      have H96 : letB (tp i) = true → Rch (mX5_next, 2, 0, 0, oQ Q) 0 0 96 [some (.ref 0), some (.int (tp i))] [] ((mC th kd ow ag lk co sh hs tp hd rl ro rf ol ah tr od tk fo wi ou ge mo my ev se (nI t) (nI i) (nI (i + 1)) tn va im lo), r) := by
        intro c1
        rw [if_pos c1] at hQ
        have hfin : ∀ z, skT tp letB t (i + 1) = z → Rch (mX5_next, 2, 0, 0, oQ Q) 0 0 135 [some (.ref 0), some (.int (tp i))] [] ((mC th kd ow ag lk co sh hs tp hd rl ro rf ol ah tr od tk fo wi ou ge mo my ev se (nI t) (nI i) (nI z) tn va im lo), r) := by
          intro z ez
          rw [ez] at hQ
          refine r_aload_n dX5_next_135 rfl ?_
          refine r_bipush 119 dX5_next_136 (by decide) ?_
          refine r_put bX5 15 (by decide) rfl q1538 dX5_next_138 rfl rfl rfl (Nat.le_of_ble_eq_true rfl) ?_
          refine r_goto 279 dX5_next_141 (by decide) ?_
          exact r_vret dX5_next_279 rfl (Nat.le_of_ble_eq_true rfl) (Nat.le_of_ble_eq_true rfl) (hQ)
        refine loopFrom (N := t) (P := fun k => skT tp letB t (i + 1) = skT tp letB t k → Rch (mX5_next, 2, 0, 0, oQ Q) 0 0 96 [some (.ref 0), some (.int (tp i))] [] ((mC th kd ow ag lk co sh hs tp hd rl ro rf ol ah tr od tk fo wi ou ge mo my ev se (nI t) (nI i) (nI k) tn va im lo), r)) (i + 1) (by omega) ?_ ?_ rfl
        · intro e2
          rw [sk_e] at e2
          refine r_aload_n dX5_next_96 rfl ?_
          refine r_get bX5 14 (by decide) q1537 dX5_next_97 rfl rfl ?_
          refine r_aload_n dX5_next_100 rfl ?_
          refine r_get bX5 11 (by decide) q1534 dX5_next_101 rfl rfl ?_
          refine r_icmp_ge 135 dX5_next_104 (by decide) (fun _ => ?_) (fun c_ => absurd (Int32.le_refl _) c_)
          exact hfin t e2
        · intro k hk1 hk2 ih e2
          by_cases g5 : letB (tp k) = true
          · rw [sk_t hk2 g5] at e2
            refine r_aload_n dX5_next_96 rfl ?_
            refine r_get bX5 14 (by decide) q1537 dX5_next_97 rfl rfl ?_
            refine r_aload_n dX5_next_100 rfl ?_
            refine r_get bX5 11 (by decide) q1534 dX5_next_101 rfl rfl ?_
            refine r_icmp_ge 135 dX5_next_104 (by decide) (fun c_ => absurd c_ (geF hk2 (by omega))) (fun _ => ?_)
            refine r_aload_n dX5_next_107 rfl ?_
            refine r_get bX5 12 (by decide) q1535 dX5_next_108 rfl rfl ?_
            refine r_aload_n dX5_next_111 rfl ?_
            refine r_get bX5 14 (by decide) q1537 dX5_next_112 rfl rfl ?_
            refine r_ialdN dX5_next_115 rfl (by omega) (Nat.le_of_ble_eq_true rfl) ?_
            refine r_callS (as := [_]) okX5_isLetter q1772 dX5_next_116 (Nat.le_of_ble_eq_true rfl) rfl (Nat.le_of_ble_eq_true rfl) (Nat.le_of_ble_eq_true rfl) (Nat.le_of_ble_eq_true rfl) (pX5_isLetter ?_)
            refine r_if_eq 135 dX5_next_119 (by decide) (fun c_ => absurd c_ (b2i_n.mpr g5)) (fun _ => ?_)
            refine r_aload_n dX5_next_122 rfl ?_
            refine r_dup dX5_next_123 rfl ?_
            refine r_get bX5 14 (by decide) q1537 dX5_next_124 rfl rfl ?_
            refine r_iconst 1 dX5_next_127 (by decide) ?_
            refine r_iadd dX5_next_128 ?_
            rw [nI_1]
            refine r_put bX5 14 (by decide) rfl q1537 dX5_next_129 rfl rfl rfl (Nat.le_of_ble_eq_true rfl) ?_
            refine r_goto 96 dX5_next_132 (by decide) ?_
            exact ih e2
          · rw [sk_f hk2 g5] at e2
            refine r_aload_n dX5_next_96 rfl ?_
            refine r_get bX5 14 (by decide) q1537 dX5_next_97 rfl rfl ?_
            refine r_aload_n dX5_next_100 rfl ?_
            refine r_get bX5 11 (by decide) q1534 dX5_next_101 rfl rfl ?_
            refine r_icmp_ge 135 dX5_next_104 (by decide) (fun c_ => absurd c_ (geF hk2 (by omega))) (fun _ => ?_)
            refine r_aload_n dX5_next_107 rfl ?_
            refine r_get bX5 12 (by decide) q1535 dX5_next_108 rfl rfl ?_
            refine r_aload_n dX5_next_111 rfl ?_
            refine r_get bX5 14 (by decide) q1537 dX5_next_112 rfl rfl ?_
            refine r_ialdN dX5_next_115 rfl (by omega) (Nat.le_of_ble_eq_true rfl) ?_
            refine r_callS (as := [_]) okX5_isLetter q1772 dX5_next_116 (Nat.le_of_ble_eq_true rfl) rfl (Nat.le_of_ble_eq_true rfl) (Nat.le_of_ble_eq_true rfl) (Nat.le_of_ble_eq_true rfl) (pX5_isLetter ?_)
            refine r_if_eq 135 dX5_next_119 (by decide) (fun _ => ?_) (fun c_ => absurd (b2i_0.mpr (by simpa using g5)) c_)
            exact hfin k e2
      refine r_aload_n dX5_next_46 rfl ?_
      refine r_aload_n dX5_next_47 rfl ?_
      refine r_get bX5 13 (by decide) q1536 dX5_next_48 rfl rfl ?_
      refine r_put bX5 14 (by decide) rfl q1537 dX5_next_51 rfl rfl rfl (Nat.le_of_ble_eq_true rfl) ?_
      refine r_aload_n dX5_next_54 rfl ?_
      refine r_get bX5 13 (by decide) q1536 dX5_next_55 rfl rfl ?_
      refine r_aload_n dX5_next_58 rfl ?_
      refine r_get bX5 11 (by decide) q1534 dX5_next_59 rfl rfl ?_
      refine r_icmp_ne 72 dX5_next_62 (by decide) (fun _ => ?_) (fun c_ => absurd c_ (fun z => g ((nI_eq (by omega) (by omega)).mp z)))
      refine r_aload_n dX5_next_72 rfl ?_
      refine r_get bX5 12 (by decide) q1535 dX5_next_73 rfl rfl ?_
      refine r_aload_n dX5_next_76 rfl ?_
      refine r_dup dX5_next_77 rfl ?_
      refine r_get bX5 14 (by decide) q1537 dX5_next_78 rfl rfl ?_
      refine r_dup_x1 dX5_next_81 rfl rfl ?_
      refine r_iconst 1 dX5_next_82 (by decide) ?_
      refine r_iadd dX5_next_83 ?_
      rw [nI_1]
      refine r_put bX5 14 (by decide) rfl q1537 dX5_next_84 rfl rfl rfl (Nat.le_of_ble_eq_true rfl) ?_
      refine r_ialdN dX5_next_87 rfl (by omega) (Nat.le_of_ble_eq_true rfl) ?_
      refine r_istore_n dX5_next_88 (Nat.le_of_ble_eq_true rfl) ?_
      refine r_iload_n dX5_next_89 rfl ?_
      refine r_callS (as := [_]) okX5_isLetter q1772 dX5_next_90 (Nat.le_of_ble_eq_true rfl) rfl (Nat.le_of_ble_eq_true rfl) (Nat.le_of_ble_eq_true rfl) (Nat.le_of_ble_eq_true rfl) (pX5_isLetter ?_)
      refine r_if_eq 144 dX5_next_93 (by decide) (fun c_93 => ?_) (fun c_93 => ?_)
      · refine r_iload_n dX5_next_144 rfl ?_
        refine r_callS (as := [_]) okX5_isDigit q1775 dX5_next_145 (Nat.le_of_ble_eq_true rfl) rfl (Nat.le_of_ble_eq_true rfl) (Nat.le_of_ble_eq_true rfl) (Nat.le_of_ble_eq_true rfl) (pX5_isDigit ?_)
        refine r_if_eq 262 dX5_next_148 (by decide) (fun c_148 => ?_) (fun c_148 => ?_)
        · exact H262 (b2i_0.mp c_93) (b2i_0.mp c_148)
        · exact H151 (b2i_0.mp c_93) (b2i_n.mp c_148)
      · exact H96 (b2i_n.mp c_93)
  refine r_aload_n dX5_next_0 rfl ?_
  refine r_aload_n dX5_next_1 rfl ?_
  refine r_get bX5 14 (by decide) q1537 dX5_next_2 rfl rfl ?_
  refine r_put bX5 13 (by decide) rfl q1536 dX5_next_5 rfl rfl rfl (Nat.le_of_ble_eq_true rfl) ?_
  refine loopFrom (N := t) (P := fun k => skT tp spB t a = skT tp spB t k → Rch (mX5_next, 2, 0, 0, oQ Q) 0 0 8 [some (.ref 0), none] [] ((mC th kd ow ag lk co sh hs tp hd rl ro rf ol ah tr od tk fo wi ou ge mo my ev se (nI t) (nI k) (nI a) tn va im lo), r)) a ha ?_ ?_ rfl
  · intro e
    rw [sk_e] at e
    refine r_aload_n dX5_next_8 rfl ?_
    refine r_get bX5 13 (by decide) q1536 dX5_next_9 rfl rfl ?_
    refine r_aload_n dX5_next_12 rfl ?_
    refine r_get bX5 11 (by decide) q1534 dX5_next_13 rfl rfl ?_
    refine r_icmp_ge 46 dX5_next_16 (by decide) (fun _ => ?_) (fun c_ => absurd (Int32.le_refl _) c_)
    exact htok t (Nat.le_refl _) e _
  · intro k hk1 hk2 ih e
    by_cases g : tp k = 32
    · rw [sk_t hk2 (by simp [spB, g])] at e
      refine r_aload_n dX5_next_8 rfl ?_
      refine r_get bX5 13 (by decide) q1536 dX5_next_9 rfl rfl ?_
      refine r_aload_n dX5_next_12 rfl ?_
      refine r_get bX5 11 (by decide) q1534 dX5_next_13 rfl rfl ?_
      refine r_icmp_ge 46 dX5_next_16 (by decide) (fun c_ => absurd c_ (geF hk2 (by omega))) (fun _ => ?_)
      refine r_aload_n dX5_next_19 rfl ?_
      refine r_get bX5 12 (by decide) q1535 dX5_next_20 rfl rfl ?_
      refine r_aload_n dX5_next_23 rfl ?_
      refine r_get bX5 13 (by decide) q1536 dX5_next_24 rfl rfl ?_
      refine r_ialdN dX5_next_27 rfl (by omega) (Nat.le_of_ble_eq_true rfl) ?_
      refine r_bipush 32 dX5_next_28 (by decide) ?_
      refine r_icmp_ne 46 dX5_next_30 (by decide) (fun c_ => absurd (g) c_) (fun _ => ?_)
      refine r_aload_n dX5_next_33 rfl ?_
      refine r_dup dX5_next_34 rfl ?_
      refine r_get bX5 13 (by decide) q1536 dX5_next_35 rfl rfl ?_
      refine r_iconst 1 dX5_next_38 (by decide) ?_
      refine r_iadd dX5_next_39 ?_
      rw [nI_1]
      refine r_put bX5 13 (by decide) rfl q1536 dX5_next_40 rfl rfl rfl (Nat.le_of_ble_eq_true rfl) ?_
      refine r_goto 8 dX5_next_43 (by decide) ?_
      exact ih e
    · rw [sk_f hk2 (by simp [spB, g])] at e
      refine r_aload_n dX5_next_8 rfl ?_
      refine r_get bX5 13 (by decide) q1536 dX5_next_9 rfl rfl ?_
      refine r_aload_n dX5_next_12 rfl ?_
      refine r_get bX5 11 (by decide) q1534 dX5_next_13 rfl rfl ?_
      refine r_icmp_ge 46 dX5_next_16 (by decide) (fun c_ => absurd c_ (geF hk2 (by omega))) (fun _ => ?_)
      refine r_aload_n dX5_next_19 rfl ?_
      refine r_get bX5 12 (by decide) q1535 dX5_next_20 rfl rfl ?_
      refine r_aload_n dX5_next_23 rfl ?_
      refine r_get bX5 13 (by decide) q1536 dX5_next_24 rfl rfl ?_
      refine r_ialdN dX5_next_27 rfl (by omega) (Nat.le_of_ble_eq_true rfl) ?_
      refine r_bipush 32 dX5_next_28 (by decide) ?_
      refine r_icmp_ne 46 dX5_next_30 (by decide) (fun _ => ?_) (fun c_ => absurd c_ (g))
      exact htok k (by omega) e _
theorem pX5_number {t a : Nat} {x y : Int32} (ht : t ≤ 250) (ha : a ≤ t) (hQ : Q (some (.int (if (nxF tp t a va).2.2.1 = 48 ∧ inB (nxF tp t a va).2.2.2 x y = true then (nxF tp t a va).2.2.2 else -1))) ((mC th kd ow ag lk co sh hs tp hd rl ro rf ol ah tr od tk fo wi ou ge mo my ev se (nI t) (nI (nxF tp t a va).1) (nI (nxF tp t a va).2.1) ((nxF tp t a va).2.2.1) ((nxF tp t a va).2.2.2) im lo), r)) : AMet mX5_number 3 0 0 [.ref 0, .int x, .int y] ((mC th kd ow ag lk co sh hs tp hd rl ro rf ol ah tr od tk fo wi ou ge mo my ev se (nI t) fr (nI a) tn va im lo), r) Q := by
  refine AMet.ofRch rfl rfl (Nat.le_of_ble_eq_true rfl) ?_
  refine r_aload_n dX5_number_0 rfl ?_
  refine r_callV (as := []) okX5_next bX5 rfl rfl q1768 dX5_number_1 (Nat.le_of_ble_eq_true rfl) rfl (Nat.le_of_ble_eq_true rfl) (Nat.le_of_ble_eq_true rfl) (Nat.le_of_ble_eq_true rfl) (pX5_next ht ha ?_)
  refine r_aload_n dX5_number_4 rfl ?_
  refine r_get bX5 15 (by decide) q1538 dX5_number_5 rfl rfl ?_
  refine r_bipush 48 dX5_number_8 (by decide) ?_
  refine r_icmp_ne 32 dX5_number_10 (by decide) (fun c_10 => ?_) (fun c_10 => ?_)
  · refine r_iconst (-1) dX5_number_32 (by decide) ?_
    exact r_iret dX5_number_33 rfl (Nat.le_of_ble_eq_true rfl) (Nat.le_of_ble_eq_true rfl) (qi (by first | (have q1 := b2i_n.mp c_22; rw [if_pos ⟨c_10, q1⟩]) | (have q1 := b2i_0.mp c_22; rw [if_neg (fun z => by rw [q1] at z; exact absurd z.2 (by decide))]) | rw [if_neg (fun z => c_10 z.1)]) hQ)
  · refine r_aload_n dX5_number_13 rfl ?_
    refine r_get bX5 16 (by decide) q1539 dX5_number_14 rfl rfl ?_
    refine r_iload_n dX5_number_17 rfl ?_
    refine r_iload_n dX5_number_18 rfl ?_
    refine r_callS (as := [_, _, _]) okX5_within q1630 dX5_number_19 (Nat.le_of_ble_eq_true rfl) rfl (Nat.le_of_ble_eq_true rfl) (Nat.le_of_ble_eq_true rfl) (Nat.le_of_ble_eq_true rfl) (pX5_within ?_)
    refine r_if_eq 32 dX5_number_22 (by decide) (fun c_22 => ?_) (fun c_22 => ?_)
    · refine r_iconst (-1) dX5_number_32 (by decide) ?_
      exact r_iret dX5_number_33 rfl (Nat.le_of_ble_eq_true rfl) (Nat.le_of_ble_eq_true rfl) (qi (by first | (have q1 := b2i_n.mp c_22; rw [if_pos ⟨c_10, q1⟩]) | (have q1 := b2i_0.mp c_22; rw [if_neg (fun z => by rw [q1] at z; exact absurd z.2 (by decide))]) | rw [if_neg (fun z => c_10 z.1)]) hQ)
    · refine r_aload_n dX5_number_25 rfl ?_
      refine r_get bX5 16 (by decide) q1539 dX5_number_26 rfl rfl ?_
      refine r_goto 33 dX5_number_29 (by decide) ?_
      exact r_iret dX5_number_33 rfl (Nat.le_of_ble_eq_true rfl) (Nat.le_of_ble_eq_true rfl) (qi (by first | (have q1 := b2i_n.mp c_22; rw [if_pos ⟨c_10, q1⟩]) | (have q1 := b2i_0.mp c_22; rw [if_neg (fun z => by rw [q1] at z; exact absurd z.2 (by decide))]) | rw [if_neg (fun z => c_10 z.1)]) hQ)
end MM
