set_option maxRecDepth 100000
/-! the reader: item -/
theorem pX1_adds_d {Q : Option Value → AHp → Prop} {rd : AC} {pf : Int32} {k a : Nat} {gg : Int32} {r0 x1 h2 E : List AC} {n : Nat} {ev se : Int32} {th : Nat → Int32} {nl : Nat → Option Nat} {ag lk co sh hs : Nat → Int32} (hn : n < 8) (hk : k < 6) (hQ : Q (some (.int (nI n))) (r0, x1, h2, rd :: (wD 1 pf th (va_up nl n (some (8 * (10 + E.length) + 3))) (upd ag n gg) (upd lk n 0) (upd co n 6) (upd sh n (-1)) (zrI hs (8 * n) 8) (nI (n + 1)) ev se ++ (E ++ [.inr (7 + k, [.int (nI n), .int (nI a)])])))) : AMet mX1_adds 5 1 2 [.ref 11, .int (nI k), .int (nI a), .int gg] (r0, x1, h2, rd :: (wD 1 pf th nl ag lk co sh hs (nI n) ev se ++ E)) Q := by
  refine AMet.ofRch rfl rfl (Nat.le_of_ble_eq_true rfl) ?_
  have hl : (rd :: (wD 1 pf th nl ag lk co sh hs (nI n) ev se ++ E)).length = 10 + E.length := by
    show E.length + 1 + 1 + 1 + 1 + 1 + 1 + 1 + 1 + 1 + 1 = _
    omega
  have el : aNew (r0, x1, h2, rd :: (wD 1 pf th nl ag lk co sh hs (nI n) ev se ++ E)) = 8 * (10 + E.length) + 3 := by
    show 8 * (rd :: (wD 1 pf th nl ag lk co sh hs (nI n) ev se ++ E)).length + 3 = _
    rw [hl]
  have hnew : aGet (r0, x1, h2, rd :: (wD 1 pf th nl ag lk co sh hs (nI n) ev se ++ (E ++ [.inr (7 + k, [.int (nI n), .int (nI a)])]))) (8 * (10 + E.length) + 3) = some (.inr (7 + k, [.int (nI n), .int (nI a)])) := dynG (D := rd :: (wD 1 pf th nl ag lk co sh hs (nI n) ev se ++ E)) hl (i := 0) rfl
  refine r_aload_n dX1_adds_0 rfl ?_
  refine r_get bX1 1 (by decide) q161 dX1_adds_1 rfl rfl ?_
  refine r_aload_n dX1_adds_4 rfl ?_
  refine r_get bX1 7 (by decide) q177 dX1_adds_5 rfl rfl ?_
  refine r_iload_n dX1_adds_8 rfl ?_
  refine r_aload_n dX1_adds_9 rfl ?_
  refine r_get bX1 7 (by decide) q177 dX1_adds_10 rfl rfl ?_
  refine r_iload_n dX1_adds_13 rfl ?_
  refine r_callSN (host := "SeenInOrderOfAge") (as := [_, _, _]) okX0_made (List.mem_of_getElem? (i := 5) rfl) dX1_adds_14 (Nat.le_of_ble_eq_true rfl) rfl (Nat.le_of_ble_eq_true rfl) (Nat.le_of_ble_eq_true rfl) (Nat.le_of_ble_eq_true rfl) (pX0_made hk ?_)
  rw [el]
  show Rch _ _ _ _ _ _ (r0, x1, h2, rd :: (wD 1 pf th nl ag lk co sh hs (nI n) ev se ++ (E ++ [.inr (7 + k, [.int (nI n), .int (nI a)])])))
  refine r_aast_looker (k := k) (fs := [.int (nI n), .int (nI a)]) dX1_adds_17 rfl hnew hk (vp_in_nI (by omega) (by omega)) ?_
  rw [nI_clamp (by omega)]
  show Rch _ _ _ _ _ _ (r0, x1, h2, rd :: (wD 1 pf th (va_up nl n (some (8 * (10 + E.length) + 3))) ag lk co sh hs (nI n) ev se ++ (E ++ [.inr (7 + k, [.int (nI n), .int (nI a)])])))
  refine r_aload_n dX1_adds_18 rfl ?_
  refine r_get bX1 2 (by decide) q164 dX1_adds_19 rfl rfl ?_
  refine r_aload_n dX1_adds_22 rfl ?_
  refine r_get bX1 7 (by decide) q177 dX1_adds_23 rfl rfl ?_
  refine r_iload_n dX1_adds_26 rfl ?_
  refine r_iastN dX1_adds_27 rfl (by omega) (Nat.le_of_ble_eq_true rfl) ?_
  refine r_aload_n dX1_adds_28 rfl ?_
  refine r_get bX1 3 (by decide) q166 dX1_adds_29 rfl rfl ?_
  refine r_aload_n dX1_adds_32 rfl ?_
  refine r_get bX1 7 (by decide) q177 dX1_adds_33 rfl rfl ?_
  refine r_iconst 0 dX1_adds_36 (by decide) ?_
  refine r_iastN dX1_adds_37 rfl (by omega) (Nat.le_of_ble_eq_true rfl) ?_
  refine r_aload_n dX1_adds_38 rfl ?_
  refine r_get bX1 4 (by decide) q169 dX1_adds_39 rfl rfl ?_
  refine r_aload_n dX1_adds_42 rfl ?_
  refine r_get bX1 7 (by decide) q177 dX1_adds_43 rfl rfl ?_
  refine r_bipush 6 dX1_adds_46 (by decide) ?_
  refine r_iastN dX1_adds_48 rfl (by omega) (Nat.le_of_ble_eq_true rfl) ?_
  refine r_aload_n dX1_adds_49 rfl ?_
  refine r_get bX1 5 (by decide) q172 dX1_adds_50 rfl rfl ?_
  refine r_aload_n dX1_adds_53 rfl ?_
  refine r_get bX1 7 (by decide) q177 dX1_adds_54 rfl rfl ?_
  refine r_iconst (-1) dX1_adds_57 (by decide) ?_
  refine r_iastN dX1_adds_58 rfl (by omega) (Nat.le_of_ble_eq_true rfl) ?_
  refine r_aload_n dX1_adds_59 rfl ?_
  refine r_get bX1 6 (by decide) q175 dX1_adds_60 rfl rfl ?_
  refine r_bipush 8 dX1_adds_63 (by decide) ?_
  refine r_aload_n dX1_adds_65 rfl ?_
  refine r_get bX1 7 (by decide) q177 dX1_adds_66 rfl rfl ?_
  refine r_imul dX1_adds_69 ?_
  rw [show (8 : Int32) * nI n = nI (8 * n) from pk_mul 8 n]
  refine r_bipush 8 dX1_adds_70 (by decide) ?_
  refine r_aload_n dX1_adds_72 rfl ?_
  refine r_get bX1 7 (by decide) q177 dX1_adds_73 rfl rfl ?_
  refine r_imul dX1_adds_76 ?_
  rw [show (8 : Int32) * nI n = nI (8 * n) from pk_mul 8 n]
  refine r_bipush 8 dX1_adds_77 (by decide) ?_
  refine r_iadd dX1_adds_79 ?_
  rw [show (8 : Int32) = nI 8 from rfl, nI_add]
  refine r_iconst 0 dX1_adds_80 (by decide) ?_
  refine r_callS (as := [_, _, _, _]) okJ0_fill_2 q723 dX1_adds_81 (Nat.le_of_ble_eq_true rfl) rfl (Nat.le_of_ble_eq_true rfl) (Nat.le_of_ble_eq_true rfl) (Nat.le_of_ble_eq_true rfl) (pJ0_fill_2 (a := 8 * (1 + 8) + 3) (n := 64) (lo := 8 * n) (hi := 8 * n + 8) (by omega) (by omega) rfl (by decide) ?_)
  refine r_aload_n dX1_adds_84 rfl ?_
  refine r_dup dX1_adds_85 rfl ?_
  refine r_get bX1 7 (by decide) q177 dX1_adds_86 rfl rfl ?_
  refine r_iconst 1 dX1_adds_89 (by decide) ?_
  refine r_iadd dX1_adds_90 ?_
  rw [nI_1]
  refine r_put bX1 7 (by decide) rfl q177 dX1_adds_91 rfl rfl rfl (Nat.le_of_ble_eq_true rfl) ?_
  refine r_aload_n dX1_adds_94 rfl ?_
  refine r_get bX1 7 (by decide) q177 dX1_adds_95 rfl rfl ?_
  refine r_iconst 1 dX1_adds_98 (by decide) ?_
  refine r_isub dX1_adds_99 ?_
  rw [nI_pred]
  exact r_iret dX1_adds_100 rfl (Nat.le_of_ble_eq_true rfl) (Nat.le_of_ble_eq_true rfl) (hQ)
section IT
variable {Q : OC → AHp → Prop} {r0 x1 h2 E : List AC} {t e : Nat} {fr nu : Int32} {wd : Value} {tp : Nat → Int32} {n : Nat} {ev se : Int32} {th : Nat → Int32} {nl : Nat → Option Nat} {ag lk co sh hs : Nat → Int32} {wr : Nat} {wc : Int32}
theorem it_P (hT : x1[29]? = some (.inl (.int, 250, .inl tp))) (ht : t ≤ 64) (he : e ≤ t) (hX1 : nmF tp t e 12 = none → FaQ Q r0 x1 h2 (nxF tp t e 0).1) (hX2 : ∀ x a1, nmF tp t e 12 = some (x, a1) → nmF tp t a1 8 = none → FaQ Q r0 x1 h2 (nxF tp t a1 0).1) (hQ : ∀ x a1 v a2 E' a'' wd' nu', nmF tp t e 12 = some (x, a1) → nmF tp t a1 8 = some (v, a2) → Ext E E' → TkV tp t a2 9 E' a'' wd' nu' → Q (.inl none) (r0, x1, h2, rdC t a'' (nI (nxF tp t a2 0).1) wd' nu' :: (wD 1 0 (upd th x (nI v)) nl ag lk co sh hs (nI n) ev se ++ E'))) : Rch (mX13_item, 10, 32, 969, Q) 0 0 200 [some (.ref 3), some (.ref wr), some (.int wc), none, none] [] (r0, x1, h2, rdC t e fr wd nu :: (wD 1 0 th nl ag lk co sh hs (nI n) ev se ++ E)) := by
  refine r_aload_n dX13_item_200 rfl ?_
  refine r_callV (as := []) okX13_next bX13 rfl rfl q1037 dX13_item_201 (Nat.le_of_ble_eq_true rfl) rfl (Nat.le_of_ble_eq_true rfl) (Nat.le_of_ble_eq_true rfl) (Nat.le_of_ble_eq_true rfl) (pX13_next (P := wD 1 0 th nl ag lk co sh hs (nI n) ev se) hT ht he (fun E1 a1 w1 n1 y1 k1 => ?_))
  refine r_aload_n dX13_item_204 rfl ?_
  refine r_iconst 0 dX13_item_205 (by decide) ?_
  refine r_bipush 11 dX13_item_206 (by decide) ?_
  refine r_xV (as := [_, _]) oxX13_number bX13 rfl rfl q1166 dX13_item_208 (Nat.le_of_ble_eq_true rfl) rfl (Nat.le_of_ble_eq_true rfl) (Nat.le_of_ble_eq_true rfl) (Nat.le_of_ble_eq_true rfl) (pX13_number (P := wD 1 0 th nl ag lk co sh hs (nI n) ev se) (m := 12) (by decide) (by omega) hT ht he k1 (fun hn D g0 g1 g2 g3 g4 g5 => rt_leave rfl (Nat.le_of_ble_eq_true rfl) (Nat.le_of_ble_eq_true rfl) (hX1 hn D g0 g1 g2 g3 g4 g5)) (fun x b1 E2 a2 w2 n2 c1 c2 c3 c4 y2 k2 => ?_))
  refine r_istore_n dX13_item_211 (Nat.le_of_ble_eq_true rfl) ?_
  refine r_aload_n dX13_item_212 rfl ?_
  refine r_get bX13 2 (by decide) q1012 dX13_item_213 rfl rfl ?_
  refine r_get bX1 0 (by decide) q159 dX13_item_216 rfl rfl ?_
  refine r_get bX2 0 (by decide) q145 dX13_item_219 rfl rfl ?_
  refine r_iload_n dX13_item_222 rfl ?_
  refine r_aload_n dX13_item_223 rfl ?_
  refine r_xV (as := []) oxX13_sort bX13 rfl rfl q1170 dX13_item_224 (Nat.le_of_ble_eq_true rfl) rfl (Nat.le_of_ble_eq_true rfl) (Nat.le_of_ble_eq_true rfl) (Nat.le_of_ble_eq_true rfl) (pX13_sort (P := wD 1 0 th nl ag lk co sh hs (nI n) ev se) hT ht c4 k2 (fun hn D g0 g1 g2 g3 g4 g5 => rt_leave rfl (Nat.le_of_ble_eq_true rfl) (Nat.le_of_ble_eq_true rfl) (hX2 _ _ c1 hn D g0 g1 g2 g3 g4 g5)) (fun v b2 E3 a3 w3 n3 d1 d2 d3 d4 y3 k3 => ?_))
  refine r_iastN dX13_item_227 rfl (by omega) (Nat.le_of_ble_eq_true rfl) ?_
  refine r_goto 388 dX13_item_228 (by decide) ?_
  exact r_vret dX13_item_388 rfl (Nat.le_of_ble_eq_true rfl) (Nat.le_of_ble_eq_true rfl) (hQ _ _ _ _ _ _ _ _ c1 d1 ((y1.trans y2).trans y3) k3)
theorem it_C (hT : x1[29]? = some (.inl (.int, 250, .inl tp))) (ht : t ≤ 64) (he : e ≤ t) (hX1 : nmF tp t e 12 = none → FaQ Q r0 x1 h2 (nxF tp t e 0).1) (hQ : ∀ x a1 E' a'' wd' nu', nmF tp t e 12 = some (x, a1) → Ext E E' → TkV tp t a1 9 E' a'' wd' nu' → Q (.inl none) (r0, x1, h2, rdC t a'' (nI (nxF tp t a1 0).1) wd' nu' :: (wD 1 0 (upd th x (-1)) nl ag lk co sh hs (nI n) ev se ++ E'))) : Rch (mX13_item, 10, 32, 969, Q) 0 0 231 [some (.ref 3), some (.ref wr), some (.int wc), none, none] [] (r0, x1, h2, rdC t e fr wd nu :: (wD 1 0 th nl ag lk co sh hs (nI n) ev se ++ E)) := by
  refine r_aload_n dX13_item_231 rfl ?_
  refine r_callV (as := []) okX13_next bX13 rfl rfl q1037 dX13_item_232 (Nat.le_of_ble_eq_true rfl) rfl (Nat.le_of_ble_eq_true rfl) (Nat.le_of_ble_eq_true rfl) (Nat.le_of_ble_eq_true rfl) (pX13_next (P := wD 1 0 th nl ag lk co sh hs (nI n) ev se) hT ht he (fun E1 a1 w1 n1 y1 k1 => ?_))
  refine r_aload_n dX13_item_235 rfl ?_
  refine r_get bX13 2 (by decide) q1012 dX13_item_236 rfl rfl ?_
  refine r_get bX1 0 (by decide) q159 dX13_item_239 rfl rfl ?_
  refine r_get bX2 0 (by decide) q145 dX13_item_242 rfl rfl ?_
  refine r_aload_n dX13_item_245 rfl ?_
  refine r_iconst 0 dX13_item_246 (by decide) ?_
  refine r_bipush 11 dX13_item_247 (by decide) ?_
  refine r_xV (as := [_, _]) oxX13_number bX13 rfl rfl q1166 dX13_item_249 (Nat.le_of_ble_eq_true rfl) rfl (Nat.le_of_ble_eq_true rfl) (Nat.le_of_ble_eq_true rfl) (Nat.le_of_ble_eq_true rfl) (pX13_number (P := wD 1 0 th nl ag lk co sh hs (nI n) ev se) (m := 12) (by decide) (by omega) hT ht he k1 (fun hn D g0 g1 g2 g3 g4 g5 => rt_leave rfl (Nat.le_of_ble_eq_true rfl) (Nat.le_of_ble_eq_true rfl) (hX1 hn D g0 g1 g2 g3 g4 g5)) (fun x b1 E2 a2 w2 n2 c1 c2 c3 c4 y2 k2 => ?_))
  refine r_iconst (-1) dX13_item_252 (by decide) ?_
  refine r_iastN dX13_item_253 rfl (by omega) (Nat.le_of_ble_eq_true rfl) ?_
  refine r_goto 388 dX13_item_254 (by decide) ?_
  exact r_vret dX13_item_388 rfl (Nat.le_of_ble_eq_true rfl) (Nat.le_of_ble_eq_true rfl) (hQ _ _ _ _ _ _ c1 (y1.trans y2) k2)
theorem it_I (hT : x1[29]? = some (.inl (.int, 250, .inl tp))) (ht : t ≤ 64) (he : e ≤ t) (hn : n ≤ 8) (hX1 : nmF tp t e n = none → FaQ Q r0 x1 h2 (nxF tp t e 0).1) (hX2 : ∀ x a1, nmF tp t e n = some (x, a1) → nmF tp t a1 8 = none → FaQ Q r0 x1 h2 (nxF tp t a1 0).1) (hQ : ∀ x a1 v a2 E' a'' wd' nu', nmF tp t e n = some (x, a1) → nmF tp t a1 8 = some (v, a2) → Ext E E' → TkV tp t a2 9 E' a'' wd' nu' → Q (.inl none) (r0, x1, h2, rdC t a'' (nI (nxF tp t a2 0).1) wd' nu' :: (wD 1 0 th nl ag (upd lk x (lk x ||| ((1 : Int32) <<< (nI v &&& 31)))) co sh hs (nI n) ev se ++ E'))) : Rch (mX13_item, 10, 32, 969, Q) 0 0 312 [some (.ref 3), some (.ref wr), some (.int wc), none, none] [] (r0, x1, h2, rdC t e fr wd nu :: (wD 1 0 th nl ag lk co sh hs (nI n) ev se ++ E)) := by
  refine r_aload_n dX13_item_312 rfl ?_
  refine r_xV (as := []) oxX13_looker bX13 rfl rfl q1175 dX13_item_313 (Nat.le_of_ble_eq_true rfl) rfl (Nat.le_of_ble_eq_true rfl) (Nat.le_of_ble_eq_true rfl) (Nat.le_of_ble_eq_true rfl) (pX13_looker hn hT ht he (fun hn D g0 g1 g2 g3 g4 g5 => rt_leave rfl (Nat.le_of_ble_eq_true rfl) (Nat.le_of_ble_eq_true rfl) (hX1 hn D g0 g1 g2 g3 g4 g5)) (fun x b1 E2 a2 w2 n2 c1 c2 c3 c4 y2 k2 => ?_))
  refine r_istore_n dX13_item_316 (Nat.le_of_ble_eq_true rfl) ?_
  refine r_aload_n dX13_item_317 rfl ?_
  refine r_get bX13 2 (by decide) q1012 dX13_item_318 rfl rfl ?_
  refine r_get bX1 3 (by decide) q167 dX13_item_321 rfl rfl ?_
  refine r_iload_n dX13_item_324 rfl ?_
  refine r_dup2 dX13_item_325 rfl rfl ?_
  refine r_ialdN dX13_item_326 rfl (by omega) (Nat.le_of_ble_eq_true rfl) ?_
  refine r_iconst 1 dX13_item_327 (by decide) ?_
  refine r_aload_n dX13_item_328 rfl ?_
  refine r_xV (as := []) oxX13_sort bX13 rfl rfl q1170 dX13_item_329 (Nat.le_of_ble_eq_true rfl) rfl (Nat.le_of_ble_eq_true rfl) (Nat.le_of_ble_eq_true rfl) (Nat.le_of_ble_eq_true rfl) (pX13_sort (P := wD 1 0 th nl ag lk co sh hs (nI n) ev se) hT ht c4 k2 (fun hn D g0 g1 g2 g3 g4 g5 => rt_leave rfl (Nat.le_of_ble_eq_true rfl) (Nat.le_of_ble_eq_true rfl) (hX2 _ _ c1 hn D g0 g1 g2 g3 g4 g5)) (fun v b2 E3 a3 w3 n3 d1 d2 d3 d4 y3 k3 => ?_))
  refine r_ishl dX13_item_332 ?_
  refine r_ior dX13_item_333 ?_
  refine r_iastN dX13_item_334 rfl (by omega) (Nat.le_of_ble_eq_true rfl) ?_
  refine r_goto 388 dX13_item_335 (by decide) ?_
  exact r_vret dX13_item_388 rfl (Nat.le_of_ble_eq_true rfl) (Nat.le_of_ble_eq_true rfl) (hQ _ _ _ _ _ _ _ _ c1 d1 (y2.trans y3) k3)
theorem it_O (hT : x1[29]? = some (.inl (.int, 250, .inl tp))) (ht : t ≤ 64) (he : e ≤ t) (hn : n ≤ 8) (hX1 : nmF tp t e n = none → FaQ Q r0 x1 h2 (nxF tp t e 0).1) (hX2 : ∀ x a1, nmF tp t e n = some (x, a1) → nmF tp t a1 13 = none → FaQ Q r0 x1 h2 (nxF tp t a1 0).1) (hQ : ∀ x a1 v a2 E' a'' wd' nu', nmF tp t e n = some (x, a1) → nmF tp t a1 13 = some (v, a2) → Ext E E' → TkV tp t a2 9 E' a'' wd' nu' → Q (.inl none) (r0, x1, h2, rdC t a'' (nI (nxF tp t a2 0).1) wd' nu' :: (wD 1 0 th nl ag lk (upd co x (nI v)) sh hs (nI n) ev se ++ E'))) : Rch (mX13_item, 10, 32, 969, Q) 0 0 338 [some (.ref 3), some (.ref wr), some (.int wc), none, none] [] (r0, x1, h2, rdC t e fr wd nu :: (wD 1 0 th nl ag lk co sh hs (nI n) ev se ++ E)) := by
  refine r_aload_n dX13_item_338 rfl ?_
  refine r_xV (as := []) oxX13_looker bX13 rfl rfl q1175 dX13_item_339 (Nat.le_of_ble_eq_true rfl) rfl (Nat.le_of_ble_eq_true rfl) (Nat.le_of_ble_eq_true rfl) (Nat.le_of_ble_eq_true rfl) (pX13_looker hn hT ht he (fun hn D g0 g1 g2 g3 g4 g5 => rt_leave rfl (Nat.le_of_ble_eq_true rfl) (Nat.le_of_ble_eq_true rfl) (hX1 hn D g0 g1 g2 g3 g4 g5)) (fun x b1 E2 a2 w2 n2 c1 c2 c3 c4 y2 k2 => ?_))
  refine r_istore_n dX13_item_342 (Nat.le_of_ble_eq_true rfl) ?_
  refine r_aload_n dX13_item_343 rfl ?_
  refine r_get bX13 2 (by decide) q1012 dX13_item_344 rfl rfl ?_
  refine r_get bX1 4 (by decide) q170 dX13_item_347 rfl rfl ?_
  refine r_iload_n dX13_item_350 rfl ?_
  refine r_aload_n dX13_item_351 rfl ?_
  refine r_iconst 0 dX13_item_352 (by decide) ?_
  refine r_bipush 12 dX13_item_353 (by decide) ?_
  refine r_xV (as := [_, _]) oxX13_number bX13 rfl rfl q1166 dX13_item_355 (Nat.le_of_ble_eq_true rfl) rfl (Nat.le_of_ble_eq_true rfl) (Nat.le_of_ble_eq_true rfl) (Nat.le_of_ble_eq_true rfl) (pX13_number (P := wD 1 0 th nl ag lk co sh hs (nI n) ev se) (m := 13) (by decide) (by omega) hT ht c4 k2 (fun hn D g0 g1 g2 g3 g4 g5 => rt_leave rfl (Nat.le_of_ble_eq_true rfl) (Nat.le_of_ble_eq_true rfl) (hX2 _ _ c1 hn D g0 g1 g2 g3 g4 g5)) (fun v b2 E3 a3 w3 n3 d1 d2 d3 d4 y3 k3 => ?_))
  refine r_iastN dX13_item_358 rfl (by omega) (Nat.le_of_ble_eq_true rfl) ?_
  refine r_goto 388 dX13_item_359 (by decide) ?_
  exact r_vret dX13_item_388 rfl (Nat.le_of_ble_eq_true rfl) (Nat.le_of_ble_eq_true rfl) (hQ _ _ _ _ _ _ _ _ c1 d1 (y2.trans y3) k3)
theorem it_S (hT : x1[29]? = some (.inl (.int, 250, .inl tp))) (ht : t ≤ 64) (he : e ≤ t) (hn : n ≤ 8) (hX1 : nmF tp t e n = none → FaQ Q r0 x1 h2 (nxF tp t e 0).1) (hX2 : ∀ x a1, nmF tp t e n = some (x, a1) → nmF tp t a1 8 = none → FaQ Q r0 x1 h2 (nxF tp t a1 0).1) (hQ : ∀ x a1 v a2 E' a'' wd' nu', nmF tp t e n = some (x, a1) → nmF tp t a1 8 = some (v, a2) → Ext E E' → TkV tp t a2 9 E' a'' wd' nu' → Q (.inl none) (r0, x1, h2, rdC t a'' (nI (nxF tp t a2 0).1) wd' nu' :: (wD 1 0 th nl ag lk co (upd sh x (nI v)) hs (nI n) ev se ++ E'))) : Rch (mX13_item, 10, 32, 969, Q) 0 0 362 [some (.ref 3), some (.ref wr), some (.int wc), none, none] [] (r0, x1, h2, rdC t e fr wd nu :: (wD 1 0 th nl ag lk co sh hs (nI n) ev se ++ E)) := by
  refine r_aload_n dX13_item_362 rfl ?_
  refine r_xV (as := []) oxX13_looker bX13 rfl rfl q1175 dX13_item_363 (Nat.le_of_ble_eq_true rfl) rfl (Nat.le_of_ble_eq_true rfl) (Nat.le_of_ble_eq_true rfl) (Nat.le_of_ble_eq_true rfl) (pX13_looker hn hT ht he (fun hn D g0 g1 g2 g3 g4 g5 => rt_leave rfl (Nat.le_of_ble_eq_true rfl) (Nat.le_of_ble_eq_true rfl) (hX1 hn D g0 g1 g2 g3 g4 g5)) (fun x b1 E2 a2 w2 n2 c1 c2 c3 c4 y2 k2 => ?_))
  refine r_istore_n dX13_item_366 (Nat.le_of_ble_eq_true rfl) ?_
  refine r_aload_n dX13_item_367 rfl ?_
  refine r_get bX13 2 (by decide) q1012 dX13_item_368 rfl rfl ?_
  refine r_get bX1 5 (by decide) q173 dX13_item_371 rfl rfl ?_
  refine r_iload_n dX13_item_374 rfl ?_
  refine r_aload_n dX13_item_375 rfl ?_
  refine r_xV (as := []) oxX13_sort bX13 rfl rfl q1170 dX13_item_376 (Nat.le_of_ble_eq_true rfl) rfl (Nat.le_of_ble_eq_true rfl) (Nat.le_of_ble_eq_true rfl) (Nat.le_of_ble_eq_true rfl) (pX13_sort (P := wD 1 0 th nl ag lk co sh hs (nI n) ev se) hT ht c4 k2 (fun hn D g0 g1 g2 g3 g4 g5 => rt_leave rfl (Nat.le_of_ble_eq_true rfl) (Nat.le_of_ble_eq_true rfl) (hX2 _ _ c1 hn D g0 g1 g2 g3 g4 g5)) (fun v b2 E3 a3 w3 n3 d1 d2 d3 d4 y3 k3 => ?_))
  refine r_iastN dX13_item_379 rfl (by omega) (Nat.le_of_ble_eq_true rfl) ?_
  refine r_goto 388 dX13_item_380 (by decide) ?_
  exact r_vret dX13_item_388 rfl (Nat.le_of_ble_eq_true rfl) (Nat.le_of_ble_eq_true rfl) (hQ _ _ _ _ _ _ _ _ c1 d1 (y2.trans y3) k3)
theorem it_L (hT : x1[29]? = some (.inl (.int, 250, .inl tp))) (ht : t ≤ 64) (he : e ≤ t) (hn : n < 8) (hX1 : nmF tp t e 6 = none → FaQ Q r0 x1 h2 (nxF tp t e 0).1) (hX2 : ∀ x a1, nmF tp t e 6 = some (x, a1) → nmF tp t a1 8 = none → FaQ Q r0 x1 h2 (nxF tp t a1 0).1) (hX3 : ∀ x a1 v a2, nmF tp t e 6 = some (x, a1) → nmF tp t a1 8 = some (v, a2) → nmF tp t a2 100 = none → FaQ Q r0 x1 h2 (nxF tp t a2 0).1) (hQ : ∀ x a1 v a2 g a3 E' a'' wd' nu', nmF tp t e 6 = some (x, a1) → nmF tp t a1 8 = some (v, a2) → nmF tp t a2 100 = some (g, a3) → x < 6 → v < 8 → Ext E E' → TkV tp t a3 9 E' a'' wd' nu' → Q (.inl none) (r0, x1, h2, rdC t a'' (nI (nxF tp t a3 0).1) wd' nu' :: (wD 1 0 th (va_up nl n (some (8 * (10 + E'.length) + 3))) (upd ag n (nI g)) (upd lk n 0) (upd co n 6) (upd sh n (-1)) (zrI hs (8 * n) 8) (nI (n + 1)) ev se ++ (E' ++ [.inr (7 + x, [.int (nI n), .int (nI v)])])))) : Rch (mX13_item, 10, 32, 969, Q) 0 0 257 [some (.ref 3), some (.ref wr), some (.int wc), none, none] [] (r0, x1, h2, rdC t e fr wd nu :: (wD 1 0 th nl ag lk co sh hs (nI n) ev se ++ E)) := by
  refine r_aload_n dX13_item_257 rfl ?_
  refine r_get bX13 2 (by decide) q1012 dX13_item_258 rfl rfl ?_
  refine r_get bX1 7 (by decide) q178 dX13_item_261 rfl rfl ?_
  refine r_bipush 8 dX13_item_264 (by decide) ?_
  refine r_icmp_ne 274 dX13_item_266 (by decide) (fun _ => ?_) (fun c_ => absurd c_ (fun z => by have := (nI_eq (b := 8) (by omega) (by omega)).mp z; omega))
  refine r_aload_n dX13_item_274 rfl ?_
  refine r_callV (as := []) okX13_next bX13 rfl rfl q1037 dX13_item_275 (Nat.le_of_ble_eq_true rfl) rfl (Nat.le_of_ble_eq_true rfl) (Nat.le_of_ble_eq_true rfl) (Nat.le_of_ble_eq_true rfl) (pX13_next (P := wD 1 0 th nl ag lk co sh hs (nI n) ev se) hT ht he (fun E1 a1 w1 n1 y1 k1 => ?_))
  refine r_aload_n dX13_item_278 rfl ?_
  refine r_iconst 0 dX13_item_279 (by decide) ?_
  refine r_iconst 5 dX13_item_280 (by decide) ?_
  refine r_xV (as := [_, _]) oxX13_number bX13 rfl rfl q1166 dX13_item_281 (Nat.le_of_ble_eq_true rfl) rfl (Nat.le_of_ble_eq_true rfl) (Nat.le_of_ble_eq_true rfl) (Nat.le_of_ble_eq_true rfl) (pX13_number (P := wD 1 0 th nl ag lk co sh hs (nI n) ev se) (m := 6) (by decide) (by omega) hT ht he k1 (fun hn D g0 g1 g2 g3 g4 g5 => rt_leave rfl (Nat.le_of_ble_eq_true rfl) (Nat.le_of_ble_eq_true rfl) (hX1 hn D g0 g1 g2 g3 g4 g5)) (fun x b1 E2 a2 w2 n2 c1 c2 c3 c4 y2 k2 => ?_))
  refine r_istore_n dX13_item_284 (Nat.le_of_ble_eq_true rfl) ?_
  refine r_aload_n dX13_item_285 rfl ?_
  refine r_xV (as := []) oxX13_sort bX13 rfl rfl q1170 dX13_item_286 (Nat.le_of_ble_eq_true rfl) rfl (Nat.le_of_ble_eq_true rfl) (Nat.le_of_ble_eq_true rfl) (Nat.le_of_ble_eq_true rfl) (pX13_sort (P := wD 1 0 th nl ag lk co sh hs (nI n) ev se) hT ht c4 k2 (fun hn D g0 g1 g2 g3 g4 g5 => rt_leave rfl (Nat.le_of_ble_eq_true rfl) (Nat.le_of_ble_eq_true rfl) (hX2 _ _ c1 hn D g0 g1 g2 g3 g4 g5)) (fun v b2 E3 a3 w3 n3 d1 d2 d3 d4 y3 k3 => ?_))
  refine r_istore dX13_item_289 (Nat.le_of_ble_eq_true rfl) ?_
  refine r_aload_n dX13_item_291 rfl ?_
  refine r_get bX13 2 (by decide) q1012 dX13_item_292 rfl rfl ?_
  refine r_iload_n dX13_item_295 rfl ?_
  refine r_iload dX13_item_296 rfl ?_
  refine r_aload_n dX13_item_298 rfl ?_
  refine r_iconst 0 dX13_item_299 (by decide) ?_
  refine r_bipush 99 dX13_item_300 (by decide) ?_
  refine r_xV (as := [_, _]) oxX13_number bX13 rfl rfl q1166 dX13_item_302 (Nat.le_of_ble_eq_true rfl) rfl (Nat.le_of_ble_eq_true rfl) (Nat.le_of_ble_eq_true rfl) (Nat.le_of_ble_eq_true rfl) (pX13_number (P := wD 1 0 th nl ag lk co sh hs (nI n) ev se) (m := 100) (by decide) (by omega) hT ht d4 k3 (fun hn D g0 g1 g2 g3 g4 g5 => rt_leave rfl (Nat.le_of_ble_eq_true rfl) (Nat.le_of_ble_eq_true rfl) (hX3 _ _ _ _ c1 d1 hn D g0 g1 g2 g3 g4 g5)) (fun g b3 E4 a4 w4 n4 f1 f2 f3 f4 y4 k4 => ?_))
  refine r_callV (as := [_, _, _]) okX1_adds bX1 rfl rfl q1174 dX13_item_305 (Nat.le_of_ble_eq_true rfl) rfl (Nat.le_of_ble_eq_true rfl) (Nat.le_of_ble_eq_true rfl) (Nat.le_of_ble_eq_true rfl) (pX1_adds_d hn c2 ?_)
  refine r_pop dX13_item_308 rfl ?_
  refine r_goto 388 dX13_item_309 (by decide) ?_
  exact r_vret dX13_item_388 rfl (Nat.le_of_ble_eq_true rfl) (Nat.le_of_ble_eq_true rfl) (hQ _ _ _ _ _ _ _ _ _ _ c1 d1 f1 c2 d2 (((y1.trans y2).trans y3).trans y4) k4)
end IT
