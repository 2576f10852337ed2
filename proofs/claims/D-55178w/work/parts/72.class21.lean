/-! ===== Change.make, playable (written by tools/class21.py) ===== -/
set_option maxHeartbeats 4000000 in
set_option maxRecDepth 100000 in
theorem ct_J6_hashCode {K : gK} {h : AH} {a b : Nat} {v : Int32} (hs : h a = some (.inr (7, [.ref b, .int 0, .int v, .int 0]))) (hv : v ≠ 0) : gCt K yJ6_hashCode w_J6_hashCode 0 0 0 0 h [.ref a] (pR (.int v) h) := by
  refine g_meth pf_J6_hashCode (nle rfl) (fun p e s m args below meth c F hnm htb => ?_)
  have F : gFix K p s m args meth c cJ6_hashCode 2 RJ6 (some .int) := F
  refine g_eql (lv' := [(0, .ref a)]) rfl ?_
  refine g_aload_n F dJ6_hashCode_0 0 rfl rfl ?_
  refine gf_J6_19_J6 (v := .int v) F dJ6_hashCode_1 hs rfl ?_
  refine g_istore_n (lv' := [(1, .int v), (0, .ref a)]) F dJ6_hashCode_4 rfl (by decide) rfl ?_
  refine g_iload_n F dJ6_hashCode_5 0 rfl rfl ?_
  refine g_if_ne (tgt := 58) F dJ6_hashCode_6 (by decide) (fun c1 => ?_) (fun c1 => absurd c1 (hv))
  refine g_iload_n F dJ6_hashCode_58 0 rfl rfl ?_
  exact g_iret F dJ6_hashCode_59 (⟨rfl, rfl⟩)
set_option maxHeartbeats 4000000 in
set_option maxRecDepth 100000 in
theorem ct_J6_equals {K : gK} {h : AH} {a b : Nat} {v : Int32} (hs : h a = some (.inr (7, [.ref b, .int 0, .int v, .int 0]))) : gCt K yJ6_equals w_J6_equals 0 0 0 0 h [.ref a, .ref a] (pR (.int 1) h) := by
  refine g_meth pf_J6_equals (nle rfl) (fun p e s m args below meth c F hnm htb => ?_)
  have F : gFix K p s m args meth c cJ6_equals 3 RJ6 (some .boolean) := F
  refine g_eql (lv' := [(0, .ref a), (1, .ref a)]) rfl ?_
  refine g_aload_n F dJ6_equals_0 0 rfl rfl ?_
  refine g_aload_n F dJ6_equals_1 1 rfl rfl ?_
  refine g_acmp_ne (rx := (some a)) (ry := (some a)) (tgt := 7) F dJ6_equals_2 (by decide) (fun c1 => absurd c1 ((fun z => z rfl))) (fun c1 => ?_)
  refine g_iconst (v := 1) F dJ6_equals_5 rfl ?_
  exact g_zret F dJ6_equals_6 (by first | rfl | exact mIn_n | (split <;> rfl) | decide) (⟨rfl, rfl⟩)
set_option maxHeartbeats 4000000 in
set_option maxRecDepth 100000 in
theorem ct_X8_make_7 {K : gK} {h0 h : AH} {A : Nat → Nat → Nat} {o : Nat → Nat} {f : Nat → Int32} {nb nc nh nq Y : Nat} (hT : th K (gNw K h0) h A o f nb nc nh nq) (hE : gE h0 h) (hI : xI f nb nc nh nq Y) (hY9 : Y + 9 ≤ 1000000) {c0 : Nat} {x y : Int32} (hc : h c0 = some (.inr (18, [.ref (gAd K 7), .int x, .int y]))) (hKA : gKA K) (hKH : gKH K) : gCt K yX8_make w_X8_make 10 207 24 209 h [.ref c0, .ref (A 7 1)] (pM K h0 (A 7 1) (mkE 7) (mkR f nb nc nh nq 7 x y)) := by
  refine g_meth pf_X8_make (nle rfl) (fun p e s m args below meth c F hnm htb => ?_)
  have F : gFix K p s m args meth c cX8_make 4 RX8 (some .int) := F
  refine g_eql (lv' := [(0, .ref c0), (1, .ref (A 7 1))]) rfl ?_
  have hY : Y ≤ 1000000 := by omega
  have hTt := hT
  obtain ⟨⟨hT0, hTN⟩, -, -, hD, ⟨hB, hBN⟩, ⟨hCu, hCN⟩, ⟨hHa, hHN⟩, hQu, hDj, hSg⟩ := hTt
  have hRw := th.w hT
  have hI2 := hI
  obtain ⟨iC, iL, iBa, iWe, iDo, iCu, iMe⟩ := hI
  obtain ⟨f1, nb8, f2, nc12, f3, nh6, f4, nq12⟩ := iC
  have hC : mC f nb nc nh nq := ⟨f1, nb8, f2, nc12, f3, nh6, f4, nq12⟩
  have hneB : ∀ i j, i < nb → j < nb → i ≠ j → A 3 i ≠ A 3 j := fun i j hi hj z => tLs.ne hB hi hj (vB_ne (by omega) (by omega) z)
  have hneC : ∀ i j, i < nc → j < nc → i ≠ j → A 4 i ≠ A 4 j := fun i j hi hj z => tLs.ne hCu hi hj (vC_ne (by omega) (by omega) z)
  have hneH : ∀ i j, i < nh → j < nh → i ≠ j → A 5 i ≠ A 5 j := fun i j hi hj z => tLs.ne hHa hi hj (vH_ne (by omega) (by omega) z)
  obtain ⟨bw, hbw⟩ := hKH 7 (by decide)
  refine g_old hbw (fun hw9 => ?_)
  refine g_aload_n F dX8_make_0 0 rfl rfl ?_
  refine gf_X8_7_X8 (v := .ref (gAd K 7)) F dX8_make_1 hc rfl ?_
  refine g_astore_n (lv' := [(2, .ref (gAd K 7)), (0, .ref c0), (1, .ref (A 7 1))]) F dX8_make_4 rfl (by decide) rfl ?_
  refine g_iconst (v := (-1)) F dX8_make_5 rfl ?_
  refine g_istore_n (lv' := [(3, .int (-1)), (2, .ref (gAd K 7)), (0, .ref c0), (1, .ref (A 7 1))]) F dX8_make_6 rfl (by decide) rfl ?_
  refine g_aload_n F dX8_make_7 1 rfl rfl ?_
  refine g_callV F dX8_make_8 mi_J6_hashCode q1364 q1365 q1366 gc_J6 hw9 (ct_J6_hashCode hw9 (by decide)) rfl rfl (nle rfl) (nle rfl) (nle rfl) (g_pur ?_) g_purX
  refine g_lookup (off := 250) (tgt := 261) F dX8_make_11 (by decide) (by decide) (by decide) ?_
  refine g_aload_n F dX8_make_261 1 rfl rfl ?_
  refine g_ldcS (i := 19) (id := 7) F rfl dX8_make_262 ?_
  refine g_callV F dX8_make_264 mi_J6_equals q1426 q1427 q1428 gc_J6 hw9 (ct_J6_equals hw9) rfl rfl (nle rfl) (nle rfl) (nle rfl) (g_pur ?_) g_purX
  refine g_if_eq (tgt := 333) F dX8_make_267 (by decide) (fun c15 => absurd c15 (by decide)) (fun c15 => ?_)
  refine g_bipush (v := 9) F dX8_make_270 rfl ?_
  refine g_istore_n (lv' := [(3, .int 9), (2, .ref (gAd K 7)), (0, .ref c0), (1, .ref (A 7 1))]) F dX8_make_272 rfl (by decide) rfl ?_
  refine g_goto (tgt := 333) F dX8_make_273 (by decide) ?_
  refine g_iload_n F dX8_make_333 0 rfl rfl ?_
  refine g_tableIn (off := 166) (tgt := 500) F dX8_make_334 (by decide) (by decide) rfl (by decide) ?_
  refine g_aload_n F dX8_make_500 3 rfl rfl ?_
  refine g_aload_n F dX8_make_501 2 rfl rfl ?_
  refine gf_X8_13_X8 (v := .int x) F dX8_make_502 hc rfl ?_
  refine g_callV (b := 23) (bs := 203) F dX8_make_505 mi_X2_setTold q1526 q1527 q1528 gc_X2 hT0 (ct_X2_setTold (x := x) hT hE hI2 hY) rfl rfl (nle rfl) (nle rfl) (nle rfl) (g_pT (fun v16 h_17 p18 => ?_)) (g_pTX (fun q19 h_20 x21 o22 => ?_))
  · obtain ⟨a23, f24, p18r, rfl, p18e, p18t⟩ := xS_e p18
    refine g_eqs (st' := [.int a23]) rfl ?_
    exact g_iret F dX8_make_508 (.inl ⟨_, rfl, xS_i p18r p18e p18t⟩)
  · obtain ⟨ci, fs, C9, T9, N9, hc9, hq9⟩ := xTh_any (xEs_c (by decide)) x21
    exact gx_out F (fun x hx => (htb x hx).elim) hc9 hq9 o22 (.inr ⟨_, rfl, x21⟩)
set_option maxHeartbeats 4000000 in
set_option maxRecDepth 100000 in
theorem ct_X8_make_9 {K : gK} {h0 h : AH} {A : Nat → Nat → Nat} {o : Nat → Nat} {f : Nat → Int32} {nb nc nh nq Y : Nat} (hT : th K (gNw K h0) h A o f nb nc nh nq) (hE : gE h0 h) (hI : xI f nb nc nh nq Y) (hY9 : Y + 9 ≤ 1000000) {c0 : Nat} {x y : Int32} (hc : h c0 = some (.inr (18, [.ref (gAd K 9), .int x, .int y]))) (hKA : gKA K) (hKH : gKH K) : gCt K yX8_make w_X8_make 10 207 24 209 h [.ref c0, .ref (A 7 1)] (pM K h0 (A 7 1) (mkE 9) (mkR f nb nc nh nq 9 x y)) := by
  refine g_meth pf_X8_make (nle rfl) (fun p e s m args below meth c F hnm htb => ?_)
  have F : gFix K p s m args meth c cX8_make 4 RX8 (some .int) := F
  refine g_eql (lv' := [(0, .ref c0), (1, .ref (A 7 1))]) rfl ?_
  have hY : Y ≤ 1000000 := by omega
  have hTt := hT
  obtain ⟨⟨hT0, hTN⟩, -, -, hD, ⟨hB, hBN⟩, ⟨hCu, hCN⟩, ⟨hHa, hHN⟩, hQu, hDj, hSg⟩ := hTt
  have hRw := th.w hT
  have hI2 := hI
  obtain ⟨iC, iL, iBa, iWe, iDo, iCu, iMe⟩ := hI
  obtain ⟨f1, nb8, f2, nc12, f3, nh6, f4, nq12⟩ := iC
  have hC : mC f nb nc nh nq := ⟨f1, nb8, f2, nc12, f3, nh6, f4, nq12⟩
  have hneB : ∀ i j, i < nb → j < nb → i ≠ j → A 3 i ≠ A 3 j := fun i j hi hj z => tLs.ne hB hi hj (vB_ne (by omega) (by omega) z)
  have hneC : ∀ i j, i < nc → j < nc → i ≠ j → A 4 i ≠ A 4 j := fun i j hi hj z => tLs.ne hCu hi hj (vC_ne (by omega) (by omega) z)
  have hneH : ∀ i j, i < nh → j < nh → i ≠ j → A 5 i ≠ A 5 j := fun i j hi hj z => tLs.ne hHa hi hj (vH_ne (by omega) (by omega) z)
  obtain ⟨bw, hbw⟩ := hKH 9 (by decide)
  refine g_old hbw (fun hw9 => ?_)
  refine g_aload_n F dX8_make_0 0 rfl rfl ?_
  refine gf_X8_7_X8 (v := .ref (gAd K 9)) F dX8_make_1 hc rfl ?_
  refine g_astore_n (lv' := [(2, .ref (gAd K 9)), (0, .ref c0), (1, .ref (A 7 1))]) F dX8_make_4 rfl (by decide) rfl ?_
  refine g_iconst (v := (-1)) F dX8_make_5 rfl ?_
  refine g_istore_n (lv' := [(3, .int (-1)), (2, .ref (gAd K 9)), (0, .ref c0), (1, .ref (A 7 1))]) F dX8_make_6 rfl (by decide) rfl ?_
  refine g_aload_n F dX8_make_7 1 rfl rfl ?_
  refine g_callV F dX8_make_8 mi_J6_hashCode q1364 q1365 q1366 gc_J6 hw9 (ct_J6_hashCode hw9 (by decide)) rfl rfl (nle rfl) (nle rfl) (nle rfl) (g_pur ?_) g_purX
  refine g_lookup (off := 121) (tgt := 132) F dX8_make_11 (by decide) (by decide) (by decide) ?_
  refine g_aload_n F dX8_make_132 1 rfl rfl ?_
  refine g_ldcS (i := 10) (id := 9) F rfl dX8_make_133 ?_
  refine g_callV F dX8_make_135 mi_J6_equals q1426 q1427 q1428 gc_J6 hw9 (ct_J6_equals hw9) rfl rfl (nle rfl) (nle rfl) (nle rfl) (g_pur ?_) g_purX
  refine g_if_eq (tgt := 333) F dX8_make_138 (by decide) (fun c15 => absurd c15 (by decide)) (fun c15 => ?_)
  refine g_iconst (v := 0) F dX8_make_141 rfl ?_
  refine g_istore_n (lv' := [(3, .int 0), (2, .ref (gAd K 9)), (0, .ref c0), (1, .ref (A 7 1))]) F dX8_make_142 rfl (by decide) rfl ?_
  refine g_goto (tgt := 333) F dX8_make_143 (by decide) ?_
  refine g_iload_n F dX8_make_333 0 rfl rfl ?_
  refine g_tableIn (off := 70) (tgt := 404) F dX8_make_334 (by decide) (by decide) rfl (by decide) ?_
  refine g_aload_n F dX8_make_404 3 rfl rfl ?_
  refine g_aload_n F dX8_make_405 2 rfl rfl ?_
  refine gf_X8_13_X8 (v := .int x) F dX8_make_406 hc rfl ?_
  refine g_aload_n F dX8_make_409 2 rfl rfl ?_
  refine gf_X8_17_X8 (v := .int y) F dX8_make_410 hc rfl ?_
  refine g_callV (b := 23) (bs := 201) F dX8_make_413 mi_X2_hang q1447 q1448 q1449 gc_X2 hT0 (ct_X2_hang (x := x) (y := y) hT hE hI2 hY) rfl rfl (nle rfl) (nle rfl) (nle rfl) (g_pT (fun v16 h_17 p18 => ?_)) (g_pTX (fun q19 h_20 x21 o22 => ?_))
  · obtain ⟨a23, f24, p18r, rfl, p18e, p18t⟩ := xS_e p18
    refine g_eqs (st' := [.int a23]) rfl ?_
    exact g_iret F dX8_make_416 (.inl ⟨_, rfl, xS_i p18r p18e p18t⟩)
  · obtain ⟨ci, fs, C9, T9, N9, hc9, hq9⟩ := xTh_any (xEs_c (by decide)) x21
    exact gx_out F (fun x hx => (htb x hx).elim) hc9 hq9 o22 (.inr ⟨_, rfl, x21⟩)
set_option maxHeartbeats 4000000 in
set_option maxRecDepth 100000 in
theorem ct_X8_make_10 {K : gK} {h0 h : AH} {A : Nat → Nat → Nat} {o : Nat → Nat} {f : Nat → Int32} {nb nc nh nq Y : Nat} (hT : th K (gNw K h0) h A o f nb nc nh nq) (hE : gE h0 h) (hI : xI f nb nc nh nq Y) (hY9 : Y + 9 ≤ 1000000) {c0 : Nat} {x y : Int32} (hc : h c0 = some (.inr (18, [.ref (gAd K 10), .int x, .int y]))) (hKA : gKA K) (hKH : gKH K) : gCt K yX8_make w_X8_make 10 207 24 209 h [.ref c0, .ref (A 7 1)] (pM K h0 (A 7 1) (mkE 10) (mkR f nb nc nh nq 10 x y)) := by
  refine g_meth pf_X8_make (nle rfl) (fun p e s m args below meth c F hnm htb => ?_)
  have F : gFix K p s m args meth c cX8_make 4 RX8 (some .int) := F
  refine g_eql (lv' := [(0, .ref c0), (1, .ref (A 7 1))]) rfl ?_
  have hY : Y ≤ 1000000 := by omega
  have hTt := hT
  obtain ⟨⟨hT0, hTN⟩, -, -, hD, ⟨hB, hBN⟩, ⟨hCu, hCN⟩, ⟨hHa, hHN⟩, hQu, hDj, hSg⟩ := hTt
  have hRw := th.w hT
  have hI2 := hI
  obtain ⟨iC, iL, iBa, iWe, iDo, iCu, iMe⟩ := hI
  obtain ⟨f1, nb8, f2, nc12, f3, nh6, f4, nq12⟩ := iC
  have hC : mC f nb nc nh nq := ⟨f1, nb8, f2, nc12, f3, nh6, f4, nq12⟩
  have hneB : ∀ i j, i < nb → j < nb → i ≠ j → A 3 i ≠ A 3 j := fun i j hi hj z => tLs.ne hB hi hj (vB_ne (by omega) (by omega) z)
  have hneC : ∀ i j, i < nc → j < nc → i ≠ j → A 4 i ≠ A 4 j := fun i j hi hj z => tLs.ne hCu hi hj (vC_ne (by omega) (by omega) z)
  have hneH : ∀ i j, i < nh → j < nh → i ≠ j → A 5 i ≠ A 5 j := fun i j hi hj z => tLs.ne hHa hi hj (vH_ne (by omega) (by omega) z)
  obtain ⟨bw, hbw⟩ := hKH 10 (by decide)
  refine g_old hbw (fun hw9 => ?_)
  refine g_aload_n F dX8_make_0 0 rfl rfl ?_
  refine gf_X8_7_X8 (v := .ref (gAd K 10)) F dX8_make_1 hc rfl ?_
  refine g_astore_n (lv' := [(2, .ref (gAd K 10)), (0, .ref c0), (1, .ref (A 7 1))]) F dX8_make_4 rfl (by decide) rfl ?_
  refine g_iconst (v := (-1)) F dX8_make_5 rfl ?_
  refine g_istore_n (lv' := [(3, .int (-1)), (2, .ref (gAd K 10)), (0, .ref c0), (1, .ref (A 7 1))]) F dX8_make_6 rfl (by decide) rfl ?_
  refine g_aload_n F dX8_make_7 1 rfl rfl ?_
  refine g_callV F dX8_make_8 mi_J6_hashCode q1364 q1365 q1366 gc_J6 hw9 (ct_J6_hashCode hw9 (by decide)) rfl rfl (nle rfl) (nle rfl) (nle rfl) (g_pur ?_) g_purX
  refine g_lookup (off := 135) (tgt := 146) F dX8_make_11 (by decide) (by decide) (by decide) ?_
  refine g_aload_n F dX8_make_146 1 rfl rfl ?_
  refine g_ldcS (i := 11) (id := 10) F rfl dX8_make_147 ?_
  refine g_callV F dX8_make_149 mi_J6_equals q1426 q1427 q1428 gc_J6 hw9 (ct_J6_equals hw9) rfl rfl (nle rfl) (nle rfl) (nle rfl) (g_pur ?_) g_purX
  refine g_if_eq (tgt := 333) F dX8_make_152 (by decide) (fun c15 => absurd c15 (by decide)) (fun c15 => ?_)
  refine g_iconst (v := 1) F dX8_make_155 rfl ?_
  refine g_istore_n (lv' := [(3, .int 1), (2, .ref (gAd K 10)), (0, .ref c0), (1, .ref (A 7 1))]) F dX8_make_156 rfl (by decide) rfl ?_
  refine g_goto (tgt := 333) F dX8_make_157 (by decide) ?_
  refine g_iload_n F dX8_make_333 0 rfl rfl ?_
  refine g_tableIn (off := 83) (tgt := 417) F dX8_make_334 (by decide) (by decide) rfl (by decide) ?_
  refine g_aload_n F dX8_make_417 3 rfl rfl ?_
  refine g_aload_n F dX8_make_418 2 rfl rfl ?_
  refine gf_X8_13_X8 (v := .int x) F dX8_make_419 hc rfl ?_
  refine g_callV (b := 23) (bs := 201) F dX8_make_422 mi_X2_drop q1485 q1486 q1487 gc_X2 hT0 (ct_X2_drop (x := x) hT hE hI2 hY) rfl rfl (nle rfl) (nle rfl) (nle rfl) (g_pT (fun v16 h_17 p18 => ?_)) (g_pTX (fun q19 h_20 x21 o22 => ?_))
  · obtain ⟨a23, f24, p18r, rfl, p18e, p18t⟩ := xS_e p18
    refine g_eqs (st' := [.int a23]) rfl ?_
    exact g_iret F dX8_make_425 (.inl ⟨_, rfl, xS_i p18r p18e p18t⟩)
  · obtain ⟨ci, fs, C9, T9, N9, hc9, hq9⟩ := xTh_any (xEs_c (by decide)) x21
    exact gx_out F (fun x hx => (htb x hx).elim) hc9 hq9 o22 (.inr ⟨_, rfl, x21⟩)
set_option maxHeartbeats 4000000 in
set_option maxRecDepth 100000 in
theorem ct_X8_make_11 {K : gK} {h0 h : AH} {A : Nat → Nat → Nat} {o : Nat → Nat} {f : Nat → Int32} {nb nc nh nq Y : Nat} (hT : th K (gNw K h0) h A o f nb nc nh nq) (hE : gE h0 h) (hI : xI f nb nc nh nq Y) (hY9 : Y + 9 ≤ 1000000) {c0 : Nat} {x y : Int32} (hc : h c0 = some (.inr (18, [.ref (gAd K 11), .int x, .int y]))) (hKA : gKA K) (hKH : gKH K) : gCt K yX8_make w_X8_make 10 207 24 209 h [.ref c0, .ref (A 7 1)] (pM K h0 (A 7 1) (mkE 11) (mkR f nb nc nh nq 11 x y)) := by
  refine g_meth pf_X8_make (nle rfl) (fun p e s m args below meth c F hnm htb => ?_)
  have F : gFix K p s m args meth c cX8_make 4 RX8 (some .int) := F
  refine g_eql (lv' := [(0, .ref c0), (1, .ref (A 7 1))]) rfl ?_
  have hY : Y ≤ 1000000 := by omega
  have hTt := hT
  obtain ⟨⟨hT0, hTN⟩, -, -, hD, ⟨hB, hBN⟩, ⟨hCu, hCN⟩, ⟨hHa, hHN⟩, hQu, hDj, hSg⟩ := hTt
  have hRw := th.w hT
  have hI2 := hI
  obtain ⟨iC, iL, iBa, iWe, iDo, iCu, iMe⟩ := hI
  obtain ⟨f1, nb8, f2, nc12, f3, nh6, f4, nq12⟩ := iC
  have hC : mC f nb nc nh nq := ⟨f1, nb8, f2, nc12, f3, nh6, f4, nq12⟩
  have hneB : ∀ i j, i < nb → j < nb → i ≠ j → A 3 i ≠ A 3 j := fun i j hi hj z => tLs.ne hB hi hj (vB_ne (by omega) (by omega) z)
  have hneC : ∀ i j, i < nc → j < nc → i ≠ j → A 4 i ≠ A 4 j := fun i j hi hj z => tLs.ne hCu hi hj (vC_ne (by omega) (by omega) z)
  have hneH : ∀ i j, i < nh → j < nh → i ≠ j → A 5 i ≠ A 5 j := fun i j hi hj z => tLs.ne hHa hi hj (vH_ne (by omega) (by omega) z)
  obtain ⟨bw, hbw⟩ := hKH 11 (by decide)
  refine g_old hbw (fun hw9 => ?_)
  refine g_aload_n F dX8_make_0 0 rfl rfl ?_
  refine gf_X8_7_X8 (v := .ref (gAd K 11)) F dX8_make_1 hc rfl ?_
  refine g_astore_n (lv' := [(2, .ref (gAd K 11)), (0, .ref c0), (1, .ref (A 7 1))]) F dX8_make_4 rfl (by decide) rfl ?_
  refine g_iconst (v := (-1)) F dX8_make_5 rfl ?_
  refine g_istore_n (lv' := [(3, .int (-1)), (2, .ref (gAd K 11)), (0, .ref c0), (1, .ref (A 7 1))]) F dX8_make_6 rfl (by decide) rfl ?_
  refine g_aload_n F dX8_make_7 1 rfl rfl ?_
  refine g_callV F dX8_make_8 mi_J6_hashCode q1364 q1365 q1366 gc_J6 hw9 (ct_J6_hashCode hw9 (by decide)) rfl rfl (nle rfl) (nle rfl) (nle rfl) (g_pur ?_) g_purX
  refine g_lookup (off := 149) (tgt := 160) F dX8_make_11 (by decide) (by decide) (by decide) ?_
  refine g_aload_n F dX8_make_160 1 rfl rfl ?_
  refine g_ldcS (i := 12) (id := 11) F rfl dX8_make_161 ?_
  refine g_callV F dX8_make_163 mi_J6_equals q1426 q1427 q1428 gc_J6 hw9 (ct_J6_equals hw9) rfl rfl (nle rfl) (nle rfl) (nle rfl) (g_pur ?_) g_purX
  refine g_if_eq (tgt := 333) F dX8_make_166 (by decide) (fun c15 => absurd c15 (by decide)) (fun c15 => ?_)
  refine g_iconst (v := 2) F dX8_make_169 rfl ?_
  refine g_istore_n (lv' := [(3, .int 2), (2, .ref (gAd K 11)), (0, .ref c0), (1, .ref (A 7 1))]) F dX8_make_170 rfl (by decide) rfl ?_
  refine g_goto (tgt := 333) F dX8_make_171 (by decide) ?_
  refine g_iload_n F dX8_make_333 0 rfl rfl ?_
  refine g_tableIn (off := 92) (tgt := 426) F dX8_make_334 (by decide) (by decide) rfl (by decide) ?_
  refine g_aload_n F dX8_make_426 3 rfl rfl ?_
  refine g_aload_n F dX8_make_427 2 rfl rfl ?_
  refine gf_X8_13_X8 (v := .int x) F dX8_make_428 hc rfl ?_
  refine g_aload_n F dX8_make_431 2 rfl rfl ?_
  refine gf_X8_17_X8 (v := .int y) F dX8_make_432 hc rfl ?_
  refine g_callV (b := 23) (bs := 201) F dX8_make_435 mi_X2_addWeights q1489 q1490 q1491 gc_X2 hT0 (ct_X2_addWeights (x := x) (y := y) hT hE hI2 hY) rfl rfl (nle rfl) (nle rfl) (nle rfl) (g_pT (fun v16 h_17 p18 => ?_)) (g_pTX (fun q19 h_20 x21 o22 => ?_))
  · obtain ⟨a23, f24, p18r, rfl, p18e, p18t⟩ := xS_e p18
    refine g_eqs (st' := [.int a23]) rfl ?_
    exact g_iret F dX8_make_438 (.inl ⟨_, rfl, xS_i p18r p18e p18t⟩)
  · obtain ⟨ci, fs, C9, T9, N9, hc9, hq9⟩ := xTh_any (xEs_i (by decide) (by decide)) x21
    exact gx_out F (fun x hx => (htb x hx).elim) hc9 hq9 o22 (.inr ⟨_, rfl, x21⟩)
set_option maxHeartbeats 4000000 in
set_option maxRecDepth 100000 in
theorem ct_X8_make_12 {K : gK} {h0 h : AH} {A : Nat → Nat → Nat} {o : Nat → Nat} {f : Nat → Int32} {nb nc nh nq Y : Nat} (hT : th K (gNw K h0) h A o f nb nc nh nq) (hE : gE h0 h) (hI : xI f nb nc nh nq Y) (hY9 : Y + 9 ≤ 1000000) {c0 : Nat} {x y : Int32} (hc : h c0 = some (.inr (18, [.ref (gAd K 12), .int x, .int y]))) (hKA : gKA K) (hKH : gKH K) : gCt K yX8_make w_X8_make 10 207 24 209 h [.ref c0, .ref (A 7 1)] (pM K h0 (A 7 1) (mkE 12) (mkR f nb nc nh nq 12 x y)) := by
  refine g_meth pf_X8_make (nle rfl) (fun p e s m args below meth c F hnm htb => ?_)
  have F : gFix K p s m args meth c cX8_make 4 RX8 (some .int) := F
  refine g_eql (lv' := [(0, .ref c0), (1, .ref (A 7 1))]) rfl ?_
  have hY : Y ≤ 1000000 := by omega
  have hTt := hT
  obtain ⟨⟨hT0, hTN⟩, -, -, hD, ⟨hB, hBN⟩, ⟨hCu, hCN⟩, ⟨hHa, hHN⟩, hQu, hDj, hSg⟩ := hTt
  have hRw := th.w hT
  have hI2 := hI
  obtain ⟨iC, iL, iBa, iWe, iDo, iCu, iMe⟩ := hI
  obtain ⟨f1, nb8, f2, nc12, f3, nh6, f4, nq12⟩ := iC
  have hC : mC f nb nc nh nq := ⟨f1, nb8, f2, nc12, f3, nh6, f4, nq12⟩
  have hneB : ∀ i j, i < nb → j < nb → i ≠ j → A 3 i ≠ A 3 j := fun i j hi hj z => tLs.ne hB hi hj (vB_ne (by omega) (by omega) z)
  have hneC : ∀ i j, i < nc → j < nc → i ≠ j → A 4 i ≠ A 4 j := fun i j hi hj z => tLs.ne hCu hi hj (vC_ne (by omega) (by omega) z)
  have hneH : ∀ i j, i < nh → j < nh → i ≠ j → A 5 i ≠ A 5 j := fun i j hi hj z => tLs.ne hHa hi hj (vH_ne (by omega) (by omega) z)
  obtain ⟨bw, hbw⟩ := hKH 12 (by decide)
  refine g_old hbw (fun hw9 => ?_)
  refine g_aload_n F dX8_make_0 0 rfl rfl ?_
  refine gf_X8_7_X8 (v := .ref (gAd K 12)) F dX8_make_1 hc rfl ?_
  refine g_astore_n (lv' := [(2, .ref (gAd K 12)), (0, .ref c0), (1, .ref (A 7 1))]) F dX8_make_4 rfl (by decide) rfl ?_
  refine g_iconst (v := (-1)) F dX8_make_5 rfl ?_
  refine g_istore_n (lv' := [(3, .int (-1)), (2, .ref (gAd K 12)), (0, .ref c0), (1, .ref (A 7 1))]) F dX8_make_6 rfl (by decide) rfl ?_
  refine g_aload_n F dX8_make_7 1 rfl rfl ?_
  refine g_callV F dX8_make_8 mi_J6_hashCode q1364 q1365 q1366 gc_J6 hw9 (ct_J6_hashCode hw9 (by decide)) rfl rfl (nle rfl) (nle rfl) (nle rfl) (g_pur ?_) g_purX
  refine g_lookup (off := 163) (tgt := 174) F dX8_make_11 (by decide) (by decide) (by decide) ?_
  refine g_aload_n F dX8_make_174 1 rfl rfl ?_
  refine g_ldcS (i := 13) (id := 12) F rfl dX8_make_175 ?_
  refine g_callV F dX8_make_177 mi_J6_equals q1426 q1427 q1428 gc_J6 hw9 (ct_J6_equals hw9) rfl rfl (nle rfl) (nle rfl) (nle rfl) (g_pur ?_) g_purX
  refine g_if_eq (tgt := 333) F dX8_make_180 (by decide) (fun c15 => absurd c15 (by decide)) (fun c15 => ?_)
  refine g_iconst (v := 3) F dX8_make_183 rfl ?_
  refine g_istore_n (lv' := [(3, .int 3), (2, .ref (gAd K 12)), (0, .ref c0), (1, .ref (A 7 1))]) F dX8_make_184 rfl (by decide) rfl ?_
  refine g_goto (tgt := 333) F dX8_make_185 (by decide) ?_
  refine g_iload_n F dX8_make_333 0 rfl rfl ?_
  refine g_tableIn (off := 105) (tgt := 439) F dX8_make_334 (by decide) (by decide) rfl (by decide) ?_
  refine g_aload_n F dX8_make_439 3 rfl rfl ?_
  refine g_aload_n F dX8_make_440 2 rfl rfl ?_
  refine gf_X8_13_X8 (v := .int x) F dX8_make_441 hc rfl ?_
  refine g_aload_n F dX8_make_444 2 rfl rfl ?_
  refine gf_X8_17_X8 (v := .int y) F dX8_make_445 hc rfl ?_
  refine g_ineg F dX8_make_448 ?_
  refine g_callV (b := 23) (bs := 201) F dX8_make_449 mi_X2_addWeights q1489 q1490 q1491 gc_X2 hT0 (ct_X2_addWeights (x := x) (y := -y) hT hE hI2 hY) rfl rfl (nle rfl) (nle rfl) (nle rfl) (g_pT (fun v16 h_17 p18 => ?_)) (g_pTX (fun q19 h_20 x21 o22 => ?_))
  · obtain ⟨a23, f24, p18r, rfl, p18e, p18t⟩ := xS_e p18
    refine g_eqs (st' := [.int a23]) rfl ?_
    exact g_iret F dX8_make_452 (.inl ⟨_, rfl, xS_i p18r p18e p18t⟩)
  · obtain ⟨ci, fs, C9, T9, N9, hc9, hq9⟩ := xTh_any (xEs_i (by decide) (by decide)) x21
    exact gx_out F (fun x hx => (htb x hx).elim) hc9 hq9 o22 (.inr ⟨_, rfl, x21⟩)
set_option maxHeartbeats 4000000 in
set_option maxRecDepth 100000 in
theorem ct_X8_make_13 {K : gK} {h0 h : AH} {A : Nat → Nat → Nat} {o : Nat → Nat} {f : Nat → Int32} {nb nc nh nq Y : Nat} (hT : th K (gNw K h0) h A o f nb nc nh nq) (hE : gE h0 h) (hI : xI f nb nc nh nq Y) (hY9 : Y + 9 ≤ 1000000) {c0 : Nat} {x y : Int32} (hc : h c0 = some (.inr (18, [.ref (gAd K 13), .int x, .int y]))) (hKA : gKA K) (hKH : gKH K) : gCt K yX8_make w_X8_make 10 207 24 209 h [.ref c0, .ref (A 7 1)] (pM K h0 (A 7 1) (mkE 13) (mkR f nb nc nh nq 13 x y)) := by
  refine g_meth pf_X8_make (nle rfl) (fun p e s m args below meth c F hnm htb => ?_)
  have F : gFix K p s m args meth c cX8_make 4 RX8 (some .int) := F
  refine g_eql (lv' := [(0, .ref c0), (1, .ref (A 7 1))]) rfl ?_
  have hY : Y ≤ 1000000 := by omega
  have hTt := hT
  obtain ⟨⟨hT0, hTN⟩, -, -, hD, ⟨hB, hBN⟩, ⟨hCu, hCN⟩, ⟨hHa, hHN⟩, hQu, hDj, hSg⟩ := hTt
  have hRw := th.w hT
  have hI2 := hI
  obtain ⟨iC, iL, iBa, iWe, iDo, iCu, iMe⟩ := hI
  obtain ⟨f1, nb8, f2, nc12, f3, nh6, f4, nq12⟩ := iC
  have hC : mC f nb nc nh nq := ⟨f1, nb8, f2, nc12, f3, nh6, f4, nq12⟩
  have hneB : ∀ i j, i < nb → j < nb → i ≠ j → A 3 i ≠ A 3 j := fun i j hi hj z => tLs.ne hB hi hj (vB_ne (by omega) (by omega) z)
  have hneC : ∀ i j, i < nc → j < nc → i ≠ j → A 4 i ≠ A 4 j := fun i j hi hj z => tLs.ne hCu hi hj (vC_ne (by omega) (by omega) z)
  have hneH : ∀ i j, i < nh → j < nh → i ≠ j → A 5 i ≠ A 5 j := fun i j hi hj z => tLs.ne hHa hi hj (vH_ne (by omega) (by omega) z)
  obtain ⟨bw, hbw⟩ := hKH 13 (by decide)
  refine g_old hbw (fun hw9 => ?_)
  refine g_aload_n F dX8_make_0 0 rfl rfl ?_
  refine gf_X8_7_X8 (v := .ref (gAd K 13)) F dX8_make_1 hc rfl ?_
  refine g_astore_n (lv' := [(2, .ref (gAd K 13)), (0, .ref c0), (1, .ref (A 7 1))]) F dX8_make_4 rfl (by decide) rfl ?_
  refine g_iconst (v := (-1)) F dX8_make_5 rfl ?_
  refine g_istore_n (lv' := [(3, .int (-1)), (2, .ref (gAd K 13)), (0, .ref c0), (1, .ref (A 7 1))]) F dX8_make_6 rfl (by decide) rfl ?_
  refine g_aload_n F dX8_make_7 1 rfl rfl ?_
  refine g_callV F dX8_make_8 mi_J6_hashCode q1364 q1365 q1366 gc_J6 hw9 (ct_J6_hashCode hw9 (by decide)) rfl rfl (nle rfl) (nle rfl) (nle rfl) (g_pur ?_) g_purX
  refine g_lookup (off := 177) (tgt := 188) F dX8_make_11 (by decide) (by decide) (by decide) ?_
  refine g_aload_n F dX8_make_188 1 rfl rfl ?_
  refine g_ldcS (i := 14) (id := 13) F rfl dX8_make_189 ?_
  refine g_callV F dX8_make_191 mi_J6_equals q1426 q1427 q1428 gc_J6 hw9 (ct_J6_equals hw9) rfl rfl (nle rfl) (nle rfl) (nle rfl) (g_pur ?_) g_purX
  refine g_if_eq (tgt := 333) F dX8_make_194 (by decide) (fun c15 => absurd c15 (by decide)) (fun c15 => ?_)
  refine g_iconst (v := 4) F dX8_make_197 rfl ?_
  refine g_istore_n (lv' := [(3, .int 4), (2, .ref (gAd K 13)), (0, .ref c0), (1, .ref (A 7 1))]) F dX8_make_198 rfl (by decide) rfl ?_
  refine g_goto (tgt := 333) F dX8_make_199 (by decide) ?_
  refine g_iload_n F dX8_make_333 0 rfl rfl ?_
  refine g_tableIn (off := 119) (tgt := 453) F dX8_make_334 (by decide) (by decide) rfl (by decide) ?_
  refine g_aload_n F dX8_make_453 3 rfl rfl ?_
  refine g_aload_n F dX8_make_454 2 rfl rfl ?_
  refine gf_X8_13_X8 (v := .int x) F dX8_make_455 hc rfl ?_
  refine g_aload_n F dX8_make_458 2 rfl rfl ?_
  refine gf_X8_17_X8 (v := .int y) F dX8_make_459 hc rfl ?_
  refine g_callV (b := 21) (bs := 197) F dX8_make_462 mi_X2_fly q1504 q1505 q1506 gc_X2 hT0 (ct_X2_fly (x := x) (y := y) hT hE hI2 hY) rfl rfl (nle rfl) (nle rfl) (nle rfl) (g_pT (fun v16 h_17 p18 => ?_)) (g_pTX (fun q19 h_20 x21 o22 => ?_))
  · obtain ⟨a23, f24, p18r, rfl, p18e, p18t⟩ := xS_e p18
    refine g_eqs (st' := [.int a23]) rfl ?_
    exact g_iret F dX8_make_465 (.inl ⟨_, rfl, xS_i p18r p18e p18t⟩)
  · obtain ⟨ci, fs, C9, T9, N9, hc9, hq9⟩ := xTh_any (xEs_i (by decide) (by decide)) x21
    exact gx_out F (fun x hx => (htb x hx).elim) hc9 hq9 o22 (.inr ⟨_, rfl, x21⟩)
set_option maxHeartbeats 4000000 in
set_option maxRecDepth 100000 in
theorem ct_X8_make_14 {K : gK} {h0 h : AH} {A : Nat → Nat → Nat} {o : Nat → Nat} {f : Nat → Int32} {nb nc nh nq Y : Nat} (hT : th K (gNw K h0) h A o f nb nc nh nq) (hE : gE h0 h) (hI : xI f nb nc nh nq Y) (hY9 : Y + 9 ≤ 1000000) {c0 : Nat} {x y : Int32} (hc : h c0 = some (.inr (18, [.ref (gAd K 14), .int x, .int y]))) (hKA : gKA K) (hKH : gKH K) : gCt K yX8_make w_X8_make 10 207 24 209 h [.ref c0, .ref (A 7 1)] (pM K h0 (A 7 1) (mkE 14) (mkR f nb nc nh nq 14 x y)) := by
  refine g_meth pf_X8_make (nle rfl) (fun p e s m args below meth c F hnm htb => ?_)
  have F : gFix K p s m args meth c cX8_make 4 RX8 (some .int) := F
  refine g_eql (lv' := [(0, .ref c0), (1, .ref (A 7 1))]) rfl ?_
  have hY : Y ≤ 1000000 := by omega
  have hTt := hT
  obtain ⟨⟨hT0, hTN⟩, -, -, hD, ⟨hB, hBN⟩, ⟨hCu, hCN⟩, ⟨hHa, hHN⟩, hQu, hDj, hSg⟩ := hTt
  have hRw := th.w hT
  have hI2 := hI
  obtain ⟨iC, iL, iBa, iWe, iDo, iCu, iMe⟩ := hI
  obtain ⟨f1, nb8, f2, nc12, f3, nh6, f4, nq12⟩ := iC
  have hC : mC f nb nc nh nq := ⟨f1, nb8, f2, nc12, f3, nh6, f4, nq12⟩
  have hneB : ∀ i j, i < nb → j < nb → i ≠ j → A 3 i ≠ A 3 j := fun i j hi hj z => tLs.ne hB hi hj (vB_ne (by omega) (by omega) z)
  have hneC : ∀ i j, i < nc → j < nc → i ≠ j → A 4 i ≠ A 4 j := fun i j hi hj z => tLs.ne hCu hi hj (vC_ne (by omega) (by omega) z)
  have hneH : ∀ i j, i < nh → j < nh → i ≠ j → A 5 i ≠ A 5 j := fun i j hi hj z => tLs.ne hHa hi hj (vH_ne (by omega) (by omega) z)
  obtain ⟨bw, hbw⟩ := hKH 14 (by decide)
  refine g_old hbw (fun hw9 => ?_)
  refine g_aload_n F dX8_make_0 0 rfl rfl ?_
  refine gf_X8_7_X8 (v := .ref (gAd K 14)) F dX8_make_1 hc rfl ?_
  refine g_astore_n (lv' := [(2, .ref (gAd K 14)), (0, .ref c0), (1, .ref (A 7 1))]) F dX8_make_4 rfl (by decide) rfl ?_
  refine g_iconst (v := (-1)) F dX8_make_5 rfl ?_
  refine g_istore_n (lv' := [(3, .int (-1)), (2, .ref (gAd K 14)), (0, .ref c0), (1, .ref (A 7 1))]) F dX8_make_6 rfl (by decide) rfl ?_
  refine g_aload_n F dX8_make_7 1 rfl rfl ?_
  refine g_callV F dX8_make_8 mi_J6_hashCode q1364 q1365 q1366 gc_J6 hw9 (ct_J6_hashCode hw9 (by decide)) rfl rfl (nle rfl) (nle rfl) (nle rfl) (g_pur ?_) g_purX
  refine g_lookup (off := 191) (tgt := 202) F dX8_make_11 (by decide) (by decide) (by decide) ?_
  refine g_aload_n F dX8_make_202 1 rfl rfl ?_
  refine g_ldcS (i := 15) (id := 14) F rfl dX8_make_203 ?_
  refine g_callV F dX8_make_205 mi_J6_equals q1426 q1427 q1428 gc_J6 hw9 (ct_J6_equals hw9) rfl rfl (nle rfl) (nle rfl) (nle rfl) (g_pur ?_) g_purX
  refine g_if_eq (tgt := 333) F dX8_make_208 (by decide) (fun c15 => absurd c15 (by decide)) (fun c15 => ?_)
  refine g_iconst (v := 5) F dX8_make_211 rfl ?_
  refine g_istore_n (lv' := [(3, .int 5), (2, .ref (gAd K 14)), (0, .ref c0), (1, .ref (A 7 1))]) F dX8_make_212 rfl (by decide) rfl ?_
  refine g_goto (tgt := 333) F dX8_make_213 (by decide) ?_
  refine g_iload_n F dX8_make_333 0 rfl rfl ?_
  refine g_tableIn (off := 132) (tgt := 466) F dX8_make_334 (by decide) (by decide) rfl (by decide) ?_
  refine g_aload_n F dX8_make_466 3 rfl rfl ?_
  refine g_callV (b := 0) (bs := 0) F dX8_make_467 mi_X2_go q1514 q723 q724 gc_X2 hT0 (ct_X2_go  hT hE hI2 hY hKA) rfl rfl (nle rfl) (nle rfl) (nle rfl) (g_pT (fun v16 h_17 p18 => ?_)) (g_pTX (fun q19 h_20 x21 o22 => ?_))
  · obtain ⟨a23, f24, p18r, rfl, p18e, p18t⟩ := xS_e p18
    refine g_eqs (st' := [.int a23]) rfl ?_
    exact g_iret F dX8_make_470 (.inl ⟨_, rfl, xS_i p18r p18e p18t⟩)
  · obtain ⟨ci, fs, C9, T9, N9, hc9, hq9⟩ := xTh_any (xEs_c (by decide)) x21
    exact gx_out F (fun x hx => (htb x hx).elim) hc9 hq9 o22 (.inr ⟨_, rfl, x21⟩)
set_option maxHeartbeats 4000000 in
set_option maxRecDepth 100000 in
theorem ct_X8_make_15 {K : gK} {h0 h : AH} {A : Nat → Nat → Nat} {o : Nat → Nat} {f : Nat → Int32} {nb nc nh nq Y : Nat} (hT : th K (gNw K h0) h A o f nb nc nh nq) (hE : gE h0 h) (hI : xI f nb nc nh nq Y) (hY9 : Y + 9 ≤ 1000000) {c0 : Nat} {x y : Int32} (hc : h c0 = some (.inr (18, [.ref (gAd K 15), .int x, .int y]))) (hKA : gKA K) (hKH : gKH K) : gCt K yX8_make w_X8_make 10 207 24 209 h [.ref c0, .ref (A 7 1)] (pM K h0 (A 7 1) (mkE 15) (mkR f nb nc nh nq 15 x y)) := by
  refine g_meth pf_X8_make (nle rfl) (fun p e s m args below meth c F hnm htb => ?_)
  have F : gFix K p s m args meth c cX8_make 4 RX8 (some .int) := F
  refine g_eql (lv' := [(0, .ref c0), (1, .ref (A 7 1))]) rfl ?_
  have hY : Y ≤ 1000000 := by omega
  have hTt := hT
  obtain ⟨⟨hT0, hTN⟩, -, -, hD, ⟨hB, hBN⟩, ⟨hCu, hCN⟩, ⟨hHa, hHN⟩, hQu, hDj, hSg⟩ := hTt
  have hRw := th.w hT
  have hI2 := hI
  obtain ⟨iC, iL, iBa, iWe, iDo, iCu, iMe⟩ := hI
  obtain ⟨f1, nb8, f2, nc12, f3, nh6, f4, nq12⟩ := iC
  have hC : mC f nb nc nh nq := ⟨f1, nb8, f2, nc12, f3, nh6, f4, nq12⟩
  have hneB : ∀ i j, i < nb → j < nb → i ≠ j → A 3 i ≠ A 3 j := fun i j hi hj z => tLs.ne hB hi hj (vB_ne (by omega) (by omega) z)
  have hneC : ∀ i j, i < nc → j < nc → i ≠ j → A 4 i ≠ A 4 j := fun i j hi hj z => tLs.ne hCu hi hj (vC_ne (by omega) (by omega) z)
  have hneH : ∀ i j, i < nh → j < nh → i ≠ j → A 5 i ≠ A 5 j := fun i j hi hj z => tLs.ne hHa hi hj (vH_ne (by omega) (by omega) z)
  obtain ⟨bw, hbw⟩ := hKH 15 (by decide)
  refine g_old hbw (fun hw9 => ?_)
  refine g_aload_n F dX8_make_0 0 rfl rfl ?_
  refine gf_X8_7_X8 (v := .ref (gAd K 15)) F dX8_make_1 hc rfl ?_
  refine g_astore_n (lv' := [(2, .ref (gAd K 15)), (0, .ref c0), (1, .ref (A 7 1))]) F dX8_make_4 rfl (by decide) rfl ?_
  refine g_iconst (v := (-1)) F dX8_make_5 rfl ?_
  refine g_istore_n (lv' := [(3, .int (-1)), (2, .ref (gAd K 15)), (0, .ref c0), (1, .ref (A 7 1))]) F dX8_make_6 rfl (by decide) rfl ?_
  refine g_aload_n F dX8_make_7 1 rfl rfl ?_
  refine g_callV F dX8_make_8 mi_J6_hashCode q1364 q1365 q1366 gc_J6 hw9 (ct_J6_hashCode hw9 (by decide)) rfl rfl (nle rfl) (nle rfl) (nle rfl) (g_pur ?_) g_purX
  refine g_lookup (off := 205) (tgt := 216) F dX8_make_11 (by decide) (by decide) (by decide) ?_
  refine g_aload_n F dX8_make_216 1 rfl rfl ?_
  refine g_ldcS (i := 16) (id := 15) F rfl dX8_make_217 ?_
  refine g_callV F dX8_make_219 mi_J6_equals q1426 q1427 q1428 gc_J6 hw9 (ct_J6_equals hw9) rfl rfl (nle rfl) (nle rfl) (nle rfl) (g_pur ?_) g_purX
  refine g_if_eq (tgt := 333) F dX8_make_222 (by decide) (fun c15 => absurd c15 (by decide)) (fun c15 => ?_)
  refine g_bipush (v := 6) F dX8_make_225 rfl ?_
  refine g_istore_n (lv' := [(3, .int 6), (2, .ref (gAd K 15)), (0, .ref c0), (1, .ref (A 7 1))]) F dX8_make_227 rfl (by decide) rfl ?_
  refine g_goto (tgt := 333) F dX8_make_228 (by decide) ?_
  refine g_iload_n F dX8_make_333 0 rfl rfl ?_
  refine g_tableIn (off := 137) (tgt := 471) F dX8_make_334 (by decide) (by decide) rfl (by decide) ?_
  refine g_aload_n F dX8_make_471 3 rfl rfl ?_
  refine g_aload_n F dX8_make_472 2 rfl rfl ?_
  refine gf_X8_13_X8 (v := .int x) F dX8_make_473 hc rfl ?_
  refine g_iconst (v := 1) F dX8_make_476 rfl ?_
  refine g_callV (b := 23) (bs := 203) F dX8_make_477 mi_X2_setDoor q1515 q1516 q1517 gc_X2 hT0 (ct_X2_setDoor (x := x) (y := 1) hT hE hI2 hY (.inr rfl)) rfl rfl (nle rfl) (nle rfl) (nle rfl) (g_pT (fun v16 h_17 p18 => ?_)) (g_pTX (fun q19 h_20 x21 o22 => ?_))
  · obtain ⟨a23, f24, p18r, rfl, p18e, p18t⟩ := xS_e p18
    refine g_eqs (st' := [.int a23]) rfl ?_
    exact g_iret F dX8_make_480 (.inl ⟨_, rfl, xS_i p18r p18e p18t⟩)
  · obtain ⟨ci, fs, C9, T9, N9, hc9, hq9⟩ := xTh_any (xEs_c (by decide)) x21
    exact gx_out F (fun x hx => (htb x hx).elim) hc9 hq9 o22 (.inr ⟨_, rfl, x21⟩)
set_option maxHeartbeats 4000000 in
set_option maxRecDepth 100000 in
theorem ct_X8_make_16 {K : gK} {h0 h : AH} {A : Nat → Nat → Nat} {o : Nat → Nat} {f : Nat → Int32} {nb nc nh nq Y : Nat} (hT : th K (gNw K h0) h A o f nb nc nh nq) (hE : gE h0 h) (hI : xI f nb nc nh nq Y) (hY9 : Y + 9 ≤ 1000000) {c0 : Nat} {x y : Int32} (hc : h c0 = some (.inr (18, [.ref (gAd K 16), .int x, .int y]))) (hKA : gKA K) (hKH : gKH K) : gCt K yX8_make w_X8_make 10 207 24 209 h [.ref c0, .ref (A 7 1)] (pM K h0 (A 7 1) (mkE 16) (mkR f nb nc nh nq 16 x y)) := by
  refine g_meth pf_X8_make (nle rfl) (fun p e s m args below meth c F hnm htb => ?_)
  have F : gFix K p s m args meth c cX8_make 4 RX8 (some .int) := F
  refine g_eql (lv' := [(0, .ref c0), (1, .ref (A 7 1))]) rfl ?_
  have hY : Y ≤ 1000000 := by omega
  have hTt := hT
  obtain ⟨⟨hT0, hTN⟩, -, -, hD, ⟨hB, hBN⟩, ⟨hCu, hCN⟩, ⟨hHa, hHN⟩, hQu, hDj, hSg⟩ := hTt
  have hRw := th.w hT
  have hI2 := hI
  obtain ⟨iC, iL, iBa, iWe, iDo, iCu, iMe⟩ := hI
  obtain ⟨f1, nb8, f2, nc12, f3, nh6, f4, nq12⟩ := iC
  have hC : mC f nb nc nh nq := ⟨f1, nb8, f2, nc12, f3, nh6, f4, nq12⟩
  have hneB : ∀ i j, i < nb → j < nb → i ≠ j → A 3 i ≠ A 3 j := fun i j hi hj z => tLs.ne hB hi hj (vB_ne (by omega) (by omega) z)
  have hneC : ∀ i j, i < nc → j < nc → i ≠ j → A 4 i ≠ A 4 j := fun i j hi hj z => tLs.ne hCu hi hj (vC_ne (by omega) (by omega) z)
  have hneH : ∀ i j, i < nh → j < nh → i ≠ j → A 5 i ≠ A 5 j := fun i j hi hj z => tLs.ne hHa hi hj (vH_ne (by omega) (by omega) z)
  obtain ⟨bw, hbw⟩ := hKH 16 (by decide)
  refine g_old hbw (fun hw9 => ?_)
  refine g_aload_n F dX8_make_0 0 rfl rfl ?_
  refine gf_X8_7_X8 (v := .ref (gAd K 16)) F dX8_make_1 hc rfl ?_
  refine g_astore_n (lv' := [(2, .ref (gAd K 16)), (0, .ref c0), (1, .ref (A 7 1))]) F dX8_make_4 rfl (by decide) rfl ?_
  refine g_iconst (v := (-1)) F dX8_make_5 rfl ?_
  refine g_istore_n (lv' := [(3, .int (-1)), (2, .ref (gAd K 16)), (0, .ref c0), (1, .ref (A 7 1))]) F dX8_make_6 rfl (by decide) rfl ?_
  refine g_aload_n F dX8_make_7 1 rfl rfl ?_
  refine g_callV F dX8_make_8 mi_J6_hashCode q1364 q1365 q1366 gc_J6 hw9 (ct_J6_hashCode hw9 (by decide)) rfl rfl (nle rfl) (nle rfl) (nle rfl) (g_pur ?_) g_purX
  refine g_lookup (off := 220) (tgt := 231) F dX8_make_11 (by decide) (by decide) (by decide) ?_
  refine g_aload_n F dX8_make_231 1 rfl rfl ?_
  refine g_ldcS (i := 17) (id := 16) F rfl dX8_make_232 ?_
  refine g_callV F dX8_make_234 mi_J6_equals q1426 q1427 q1428 gc_J6 hw9 (ct_J6_equals hw9) rfl rfl (nle rfl) (nle rfl) (nle rfl) (g_pur ?_) g_purX
  refine g_if_eq (tgt := 333) F dX8_make_237 (by decide) (fun c15 => absurd c15 (by decide)) (fun c15 => ?_)
  refine g_bipush (v := 7) F dX8_make_240 rfl ?_
  refine g_istore_n (lv' := [(3, .int 7), (2, .ref (gAd K 16)), (0, .ref c0), (1, .ref (A 7 1))]) F dX8_make_242 rfl (by decide) rfl ?_
  refine g_goto (tgt := 333) F dX8_make_243 (by decide) ?_
  refine g_iload_n F dX8_make_333 0 rfl rfl ?_
  refine g_tableIn (off := 147) (tgt := 481) F dX8_make_334 (by decide) (by decide) rfl (by decide) ?_
  refine g_aload_n F dX8_make_481 3 rfl rfl ?_
  refine g_aload_n F dX8_make_482 2 rfl rfl ?_
  refine gf_X8_13_X8 (v := .int x) F dX8_make_483 hc rfl ?_
  refine g_iconst (v := 0) F dX8_make_486 rfl ?_
  refine g_callV (b := 23) (bs := 203) F dX8_make_487 mi_X2_setDoor q1515 q1516 q1517 gc_X2 hT0 (ct_X2_setDoor (x := x) (y := 0) hT hE hI2 hY (.inl rfl)) rfl rfl (nle rfl) (nle rfl) (nle rfl) (g_pT (fun v16 h_17 p18 => ?_)) (g_pTX (fun q19 h_20 x21 o22 => ?_))
  · obtain ⟨a23, f24, p18r, rfl, p18e, p18t⟩ := xS_e p18
    refine g_eqs (st' := [.int a23]) rfl ?_
    exact g_iret F dX8_make_490 (.inl ⟨_, rfl, xS_i p18r p18e p18t⟩)
  · obtain ⟨ci, fs, C9, T9, N9, hc9, hq9⟩ := xTh_any (xEs_c (by decide)) x21
    exact gx_out F (fun x hx => (htb x hx).elim) hc9 hq9 o22 (.inr ⟨_, rfl, x21⟩)
set_option maxHeartbeats 4000000 in
set_option maxRecDepth 100000 in
theorem ct_X8_make_17 {K : gK} {h0 h : AH} {A : Nat → Nat → Nat} {o : Nat → Nat} {f : Nat → Int32} {nb nc nh nq Y : Nat} (hT : th K (gNw K h0) h A o f nb nc nh nq) (hE : gE h0 h) (hI : xI f nb nc nh nq Y) (hY9 : Y + 9 ≤ 1000000) {c0 : Nat} {x y : Int32} (hc : h c0 = some (.inr (18, [.ref (gAd K 17), .int x, .int y]))) (hKA : gKA K) (hKH : gKH K) : gCt K yX8_make w_X8_make 10 207 24 209 h [.ref c0, .ref (A 7 1)] (pM K h0 (A 7 1) (mkE 17) (mkR f nb nc nh nq 17 x y)) := by
  refine g_meth pf_X8_make (nle rfl) (fun p e s m args below meth c F hnm htb => ?_)
  have F : gFix K p s m args meth c cX8_make 4 RX8 (some .int) := F
  refine g_eql (lv' := [(0, .ref c0), (1, .ref (A 7 1))]) rfl ?_
  have hY : Y ≤ 1000000 := by omega
  have hTt := hT
  obtain ⟨⟨hT0, hTN⟩, -, -, hD, ⟨hB, hBN⟩, ⟨hCu, hCN⟩, ⟨hHa, hHN⟩, hQu, hDj, hSg⟩ := hTt
  have hRw := th.w hT
  have hI2 := hI
  obtain ⟨iC, iL, iBa, iWe, iDo, iCu, iMe⟩ := hI
  obtain ⟨f1, nb8, f2, nc12, f3, nh6, f4, nq12⟩ := iC
  have hC : mC f nb nc nh nq := ⟨f1, nb8, f2, nc12, f3, nh6, f4, nq12⟩
  have hneB : ∀ i j, i < nb → j < nb → i ≠ j → A 3 i ≠ A 3 j := fun i j hi hj z => tLs.ne hB hi hj (vB_ne (by omega) (by omega) z)
  have hneC : ∀ i j, i < nc → j < nc → i ≠ j → A 4 i ≠ A 4 j := fun i j hi hj z => tLs.ne hCu hi hj (vC_ne (by omega) (by omega) z)
  have hneH : ∀ i j, i < nh → j < nh → i ≠ j → A 5 i ≠ A 5 j := fun i j hi hj z => tLs.ne hHa hi hj (vH_ne (by omega) (by omega) z)
  obtain ⟨bw, hbw⟩ := hKH 17 (by decide)
  refine g_old hbw (fun hw9 => ?_)
  refine g_aload_n F dX8_make_0 0 rfl rfl ?_
  refine gf_X8_7_X8 (v := .ref (gAd K 17)) F dX8_make_1 hc rfl ?_
  refine g_astore_n (lv' := [(2, .ref (gAd K 17)), (0, .ref c0), (1, .ref (A 7 1))]) F dX8_make_4 rfl (by decide) rfl ?_
  refine g_iconst (v := (-1)) F dX8_make_5 rfl ?_
  refine g_istore_n (lv' := [(3, .int (-1)), (2, .ref (gAd K 17)), (0, .ref c0), (1, .ref (A 7 1))]) F dX8_make_6 rfl (by decide) rfl ?_
  refine g_aload_n F dX8_make_7 1 rfl rfl ?_
  refine g_callV F dX8_make_8 mi_J6_hashCode q1364 q1365 q1366 gc_J6 hw9 (ct_J6_hashCode hw9 (by decide)) rfl rfl (nle rfl) (nle rfl) (nle rfl) (g_pur ?_) g_purX
  refine g_lookup (off := 235) (tgt := 246) F dX8_make_11 (by decide) (by decide) (by decide) ?_
  refine g_aload_n F dX8_make_246 1 rfl rfl ?_
  refine g_ldcS (i := 18) (id := 17) F rfl dX8_make_247 ?_
  refine g_callV F dX8_make_249 mi_J6_equals q1426 q1427 q1428 gc_J6 hw9 (ct_J6_equals hw9) rfl rfl (nle rfl) (nle rfl) (nle rfl) (g_pur ?_) g_purX
  refine g_if_eq (tgt := 333) F dX8_make_252 (by decide) (fun c15 => absurd c15 (by decide)) (fun c15 => ?_)
  refine g_bipush (v := 8) F dX8_make_255 rfl ?_
  refine g_istore_n (lv' := [(3, .int 8), (2, .ref (gAd K 17)), (0, .ref c0), (1, .ref (A 7 1))]) F dX8_make_257 rfl (by decide) rfl ?_
  refine g_goto (tgt := 333) F dX8_make_258 (by decide) ?_
  refine g_iload_n F dX8_make_333 0 rfl rfl ?_
  refine g_tableIn (off := 157) (tgt := 491) F dX8_make_334 (by decide) (by decide) rfl (by decide) ?_
  refine g_aload_n F dX8_make_491 3 rfl rfl ?_
  refine g_aload_n F dX8_make_492 2 rfl rfl ?_
  refine gf_X8_13_X8 (v := .int x) F dX8_make_493 hc rfl ?_
  refine g_callV (b := 22) (bs := 201) F dX8_make_496 mi_X2_age q1521 q1522 q1523 gc_X2 hT0 (ct_X2_age (x := x) hT hE hI2 hY9) rfl rfl (nle rfl) (nle rfl) (nle rfl) (g_pT (fun v16 h_17 p18 => ?_)) (g_pTX (fun q19 h_20 x21 o22 => ?_))
  · obtain ⟨a23, f24, p18r, rfl, p18e, p18t⟩ := xS_e p18
    refine g_eqs (st' := [.int a23]) rfl ?_
    exact g_iret F dX8_make_499 (.inl ⟨_, rfl, xS_i p18r p18e p18t⟩)
  · obtain ⟨ci, fs, C9, T9, N9, hc9, hq9⟩ := xTh_any (xEs_c (by decide)) x21
    exact gx_out F (fun x hx => (htb x hx).elim) hc9 hq9 o22 (.inr ⟨_, rfl, x21⟩)
set_option maxHeartbeats 4000000 in
set_option maxRecDepth 100000 in
theorem ct_X8_make_19 {K : gK} {h0 h : AH} {A : Nat → Nat → Nat} {o : Nat → Nat} {f : Nat → Int32} {nb nc nh nq Y : Nat} (hT : th K (gNw K h0) h A o f nb nc nh nq) (hE : gE h0 h) (hI : xI f nb nc nh nq Y) (hY9 : Y + 9 ≤ 1000000) {c0 : Nat} {x y : Int32} (hc : h c0 = some (.inr (18, [.ref (gAd K 19), .int x, .int y]))) (hKA : gKA K) (hKH : gKH K) : gCt K yX8_make w_X8_make 10 207 24 209 h [.ref c0, .ref (A 7 1)] (pM K h0 (A 7 1) (mkE 19) (mkR f nb nc nh nq 19 x y)) := by
  refine g_meth pf_X8_make (nle rfl) (fun p e s m args below meth c F hnm htb => ?_)
  have F : gFix K p s m args meth c cX8_make 4 RX8 (some .int) := F
  refine g_eql (lv' := [(0, .ref c0), (1, .ref (A 7 1))]) rfl ?_
  have hY : Y ≤ 1000000 := by omega
  have hTt := hT
  obtain ⟨⟨hT0, hTN⟩, -, -, hD, ⟨hB, hBN⟩, ⟨hCu, hCN⟩, ⟨hHa, hHN⟩, hQu, hDj, hSg⟩ := hTt
  have hRw := th.w hT
  have hI2 := hI
  obtain ⟨iC, iL, iBa, iWe, iDo, iCu, iMe⟩ := hI
  obtain ⟨f1, nb8, f2, nc12, f3, nh6, f4, nq12⟩ := iC
  have hC : mC f nb nc nh nq := ⟨f1, nb8, f2, nc12, f3, nh6, f4, nq12⟩
  have hneB : ∀ i j, i < nb → j < nb → i ≠ j → A 3 i ≠ A 3 j := fun i j hi hj z => tLs.ne hB hi hj (vB_ne (by omega) (by omega) z)
  have hneC : ∀ i j, i < nc → j < nc → i ≠ j → A 4 i ≠ A 4 j := fun i j hi hj z => tLs.ne hCu hi hj (vC_ne (by omega) (by omega) z)
  have hneH : ∀ i j, i < nh → j < nh → i ≠ j → A 5 i ≠ A 5 j := fun i j hi hj z => tLs.ne hHa hi hj (vH_ne (by omega) (by omega) z)
  obtain ⟨bw, hbw⟩ := hKH 19 (by decide)
  refine g_old hbw (fun hw9 => ?_)
  refine g_aload_n F dX8_make_0 0 rfl rfl ?_
  refine gf_X8_7_X8 (v := .ref (gAd K 19)) F dX8_make_1 hc rfl ?_
  refine g_astore_n (lv' := [(2, .ref (gAd K 19)), (0, .ref c0), (1, .ref (A 7 1))]) F dX8_make_4 rfl (by decide) rfl ?_
  refine g_iconst (v := (-1)) F dX8_make_5 rfl ?_
  refine g_istore_n (lv' := [(3, .int (-1)), (2, .ref (gAd K 19)), (0, .ref c0), (1, .ref (A 7 1))]) F dX8_make_6 rfl (by decide) rfl ?_
  refine g_aload_n F dX8_make_7 1 rfl rfl ?_
  refine g_callV F dX8_make_8 mi_J6_hashCode q1364 q1365 q1366 gc_J6 hw9 (ct_J6_hashCode hw9 (by decide)) rfl rfl (nle rfl) (nle rfl) (nle rfl) (g_pur ?_) g_purX
  refine g_lookup (off := 280) (tgt := 291) F dX8_make_11 (by decide) (by decide) (by decide) ?_
  refine g_aload_n F dX8_make_291 1 rfl rfl ?_
  refine g_ldcS (i := 21) (id := 19) F rfl dX8_make_292 ?_
  refine g_callV F dX8_make_294 mi_J6_equals q1426 q1427 q1428 gc_J6 hw9 (ct_J6_equals hw9) rfl rfl (nle rfl) (nle rfl) (nle rfl) (g_pur ?_) g_purX
  refine g_if_eq (tgt := 333) F dX8_make_297 (by decide) (fun c15 => absurd c15 (by decide)) (fun c15 => ?_)
  refine g_bipush (v := 11) F dX8_make_300 rfl ?_
  refine g_istore_n (lv' := [(3, .int 11), (2, .ref (gAd K 19)), (0, .ref c0), (1, .ref (A 7 1))]) F dX8_make_302 rfl (by decide) rfl ?_
  refine g_goto (tgt := 333) F dX8_make_303 (by decide) ?_
  refine g_iload_n F dX8_make_333 0 rfl rfl ?_
  refine g_tableIn (off := 197) (tgt := 531) F dX8_make_334 (by decide) (by decide) rfl (by decide) ?_
  refine g_aload_n F dX8_make_531 3 rfl rfl ?_
  refine g_aload_n F dX8_make_532 2 rfl rfl ?_
  refine gf_X8_13_X8 (v := .int x) F dX8_make_533 hc rfl ?_
  refine g_callV (b := 23) (bs := 201) F dX8_make_536 mi_X2_renew q1560 q1561 q1562 gc_X2 hT0 (ct_X2_renew (x := x) hT hE hI2 hY) rfl rfl (nle rfl) (nle rfl) (nle rfl) (g_pT (fun v16 h_17 p18 => ?_)) (g_pTX (fun q19 h_20 x21 o22 => ?_))
  · obtain ⟨a23, f24, p18r, rfl, p18e, p18t⟩ := xS_e p18
    refine g_eqs (st' := [.int a23]) rfl ?_
    exact g_iret F dX8_make_539 (.inl ⟨_, rfl, xS_i p18r p18e p18t⟩)
  · obtain ⟨ci, fs, C9, T9, N9, hc9, hq9⟩ := xTh_any (xEs_c (by decide)) x21
    exact gx_out F (fun x hx => (htb x hx).elim) hc9 hq9 o22 (.inr ⟨_, rfl, x21⟩)
set_option maxHeartbeats 4000000 in
set_option maxRecDepth 100000 in
theorem ct_X8_make_20 {K : gK} {h0 h : AH} {A : Nat → Nat → Nat} {o : Nat → Nat} {f : Nat → Int32} {nb nc nh nq Y : Nat} (hT : th K (gNw K h0) h A o f nb nc nh nq) (hE : gE h0 h) (hI : xI f nb nc nh nq Y) (hY9 : Y + 9 ≤ 1000000) {c0 : Nat} {x y : Int32} (hc : h c0 = some (.inr (18, [.ref (gAd K 20), .int x, .int y]))) (hKA : gKA K) (hKH : gKH K) : gCt K yX8_make w_X8_make 10 207 24 209 h [.ref c0, .ref (A 7 1)] (pM K h0 (A 7 1) (mkE 20) (mkR f nb nc nh nq 20 x y)) := by
  refine g_meth pf_X8_make (nle rfl) (fun p e s m args below meth c F hnm htb => ?_)
  have F : gFix K p s m args meth c cX8_make 4 RX8 (some .int) := F
  refine g_eql (lv' := [(0, .ref c0), (1, .ref (A 7 1))]) rfl ?_
  have hY : Y ≤ 1000000 := by omega
  have hTt := hT
  obtain ⟨⟨hT0, hTN⟩, -, -, hD, ⟨hB, hBN⟩, ⟨hCu, hCN⟩, ⟨hHa, hHN⟩, hQu, hDj, hSg⟩ := hTt
  have hRw := th.w hT
  have hI2 := hI
  obtain ⟨iC, iL, iBa, iWe, iDo, iCu, iMe⟩ := hI
  obtain ⟨f1, nb8, f2, nc12, f3, nh6, f4, nq12⟩ := iC
  have hC : mC f nb nc nh nq := ⟨f1, nb8, f2, nc12, f3, nh6, f4, nq12⟩
  have hneB : ∀ i j, i < nb → j < nb → i ≠ j → A 3 i ≠ A 3 j := fun i j hi hj z => tLs.ne hB hi hj (vB_ne (by omega) (by omega) z)
  have hneC : ∀ i j, i < nc → j < nc → i ≠ j → A 4 i ≠ A 4 j := fun i j hi hj z => tLs.ne hCu hi hj (vC_ne (by omega) (by omega) z)
  have hneH : ∀ i j, i < nh → j < nh → i ≠ j → A 5 i ≠ A 5 j := fun i j hi hj z => tLs.ne hHa hi hj (vH_ne (by omega) (by omega) z)
  obtain ⟨bw, hbw⟩ := hKH 20 (by decide)
  refine g_old hbw (fun hw9 => ?_)
  refine g_aload_n F dX8_make_0 0 rfl rfl ?_
  refine gf_X8_7_X8 (v := .ref (gAd K 20)) F dX8_make_1 hc rfl ?_
  refine g_astore_n (lv' := [(2, .ref (gAd K 20)), (0, .ref c0), (1, .ref (A 7 1))]) F dX8_make_4 rfl (by decide) rfl ?_
  refine g_iconst (v := (-1)) F dX8_make_5 rfl ?_
  refine g_istore_n (lv' := [(3, .int (-1)), (2, .ref (gAd K 20)), (0, .ref c0), (1, .ref (A 7 1))]) F dX8_make_6 rfl (by decide) rfl ?_
  refine g_aload_n F dX8_make_7 1 rfl rfl ?_
  refine g_callV F dX8_make_8 mi_J6_hashCode q1364 q1365 q1366 gc_J6 hw9 (ct_J6_hashCode hw9 (by decide)) rfl rfl (nle rfl) (nle rfl) (nle rfl) (g_pur ?_) g_purX
  refine g_lookup (off := 295) (tgt := 306) F dX8_make_11 (by decide) (by decide) (by decide) ?_
  refine g_aload_n F dX8_make_306 1 rfl rfl ?_
  refine g_ldcS (i := 22) (id := 20) F rfl dX8_make_307 ?_
  refine g_callV F dX8_make_309 mi_J6_equals q1426 q1427 q1428 gc_J6 hw9 (ct_J6_equals hw9) rfl rfl (nle rfl) (nle rfl) (nle rfl) (g_pur ?_) g_purX
  refine g_if_eq (tgt := 333) F dX8_make_312 (by decide) (fun c15 => absurd c15 (by decide)) (fun c15 => ?_)
  refine g_bipush (v := 12) F dX8_make_315 rfl ?_
  refine g_istore_n (lv' := [(3, .int 12), (2, .ref (gAd K 20)), (0, .ref c0), (1, .ref (A 7 1))]) F dX8_make_317 rfl (by decide) rfl ?_
  refine g_goto (tgt := 333) F dX8_make_318 (by decide) ?_
  refine g_iload_n F dX8_make_333 0 rfl rfl ?_
  refine g_tableIn (off := 206) (tgt := 540) F dX8_make_334 (by decide) (by decide) rfl (by decide) ?_
  refine g_aload_n F dX8_make_540 3 rfl rfl ?_
  refine g_aload_n F dX8_make_541 2 rfl rfl ?_
  refine gf_X8_13_X8 (v := .int x) F dX8_make_542 hc rfl ?_
  refine g_callV (b := 22) (bs := 191) F dX8_make_545 mi_X2_addCurtain q1564 q1565 q1566 gc_X2 hT0 (ct_X2_addCurtain (x := x) hT hE hI2 hY hKA) rfl rfl (nle rfl) (nle rfl) (nle rfl) (g_pT (fun v16 h_17 p18 => ?_)) (g_pTX (fun q19 h_20 x21 o22 => ?_))
  · obtain ⟨a23, f24, p18r, rfl, p18e, p18t⟩ := xS_e p18
    refine g_eqs (st' := [.int a23]) rfl ?_
    exact g_iret F dX8_make_548 (.inl ⟨_, rfl, xS_i p18r p18e p18t⟩)
  · obtain ⟨ci, fs, C9, T9, N9, hc9, hq9⟩ := xTh_any (xEs_i (by decide) (by decide)) x21
    exact gx_out F (fun x hx => (htb x hx).elim) hc9 hq9 o22 (.inr ⟨_, rfl, x21⟩)
set_option maxHeartbeats 4000000 in
set_option maxRecDepth 100000 in
theorem ct_X8_make_21 {K : gK} {h0 h : AH} {A : Nat → Nat → Nat} {o : Nat → Nat} {f : Nat → Int32} {nb nc nh nq Y : Nat} (hT : th K (gNw K h0) h A o f nb nc nh nq) (hE : gE h0 h) (hI : xI f nb nc nh nq Y) (hY9 : Y + 9 ≤ 1000000) {c0 : Nat} {x y : Int32} (hc : h c0 = some (.inr (18, [.ref (gAd K 21), .int x, .int y]))) (hKA : gKA K) (hKH : gKH K) : gCt K yX8_make w_X8_make 10 207 24 209 h [.ref c0, .ref (A 7 1)] (pM K h0 (A 7 1) (mkE 21) (mkR f nb nc nh nq 21 x y)) := by
  refine g_meth pf_X8_make (nle rfl) (fun p e s m args below meth c F hnm htb => ?_)
  have F : gFix K p s m args meth c cX8_make 4 RX8 (some .int) := F
  refine g_eql (lv' := [(0, .ref c0), (1, .ref (A 7 1))]) rfl ?_
  have hY : Y ≤ 1000000 := by omega
  have hTt := hT
  obtain ⟨⟨hT0, hTN⟩, -, -, hD, ⟨hB, hBN⟩, ⟨hCu, hCN⟩, ⟨hHa, hHN⟩, hQu, hDj, hSg⟩ := hTt
  have hRw := th.w hT
  have hI2 := hI
  obtain ⟨iC, iL, iBa, iWe, iDo, iCu, iMe⟩ := hI
  obtain ⟨f1, nb8, f2, nc12, f3, nh6, f4, nq12⟩ := iC
  have hC : mC f nb nc nh nq := ⟨f1, nb8, f2, nc12, f3, nh6, f4, nq12⟩
  have hneB : ∀ i j, i < nb → j < nb → i ≠ j → A 3 i ≠ A 3 j := fun i j hi hj z => tLs.ne hB hi hj (vB_ne (by omega) (by omega) z)
  have hneC : ∀ i j, i < nc → j < nc → i ≠ j → A 4 i ≠ A 4 j := fun i j hi hj z => tLs.ne hCu hi hj (vC_ne (by omega) (by omega) z)
  have hneH : ∀ i j, i < nh → j < nh → i ≠ j → A 5 i ≠ A 5 j := fun i j hi hj z => tLs.ne hHa hi hj (vH_ne (by omega) (by omega) z)
  obtain ⟨bw, hbw⟩ := hKH 21 (by decide)
  refine g_old hbw (fun hw9 => ?_)
  refine g_aload_n F dX8_make_0 0 rfl rfl ?_
  refine gf_X8_7_X8 (v := .ref (gAd K 21)) F dX8_make_1 hc rfl ?_
  refine g_astore_n (lv' := [(2, .ref (gAd K 21)), (0, .ref c0), (1, .ref (A 7 1))]) F dX8_make_4 rfl (by decide) rfl ?_
  refine g_iconst (v := (-1)) F dX8_make_5 rfl ?_
  refine g_istore_n (lv' := [(3, .int (-1)), (2, .ref (gAd K 21)), (0, .ref c0), (1, .ref (A 7 1))]) F dX8_make_6 rfl (by decide) rfl ?_
  refine g_aload_n F dX8_make_7 1 rfl rfl ?_
  refine g_callV F dX8_make_8 mi_J6_hashCode q1364 q1365 q1366 gc_J6 hw9 (ct_J6_hashCode hw9 (by decide)) rfl rfl (nle rfl) (nle rfl) (nle rfl) (g_pur ?_) g_purX
  refine g_lookup (off := 310) (tgt := 321) F dX8_make_11 (by decide) (by decide) (by decide) ?_
  refine g_aload_n F dX8_make_321 1 rfl rfl ?_
  refine g_ldcS (i := 23) (id := 21) F rfl dX8_make_322 ?_
  refine g_callV F dX8_make_324 mi_J6_equals q1426 q1427 q1428 gc_J6 hw9 (ct_J6_equals hw9) rfl rfl (nle rfl) (nle rfl) (nle rfl) (g_pur ?_) g_purX
  refine g_if_eq (tgt := 333) F dX8_make_327 (by decide) (fun c15 => absurd c15 (by decide)) (fun c15 => ?_)
  refine g_bipush (v := 13) F dX8_make_330 rfl ?_
  refine g_istore_n (lv' := [(3, .int 13), (2, .ref (gAd K 21)), (0, .ref c0), (1, .ref (A 7 1))]) F dX8_make_332 rfl (by decide) rfl ?_
  refine g_iload_n F dX8_make_333 0 rfl rfl ?_
  refine g_tableIn (off := 215) (tgt := 549) F dX8_make_334 (by decide) (by decide) rfl (by decide) ?_
  refine g_aload_n F dX8_make_549 3 rfl rfl ?_
  refine g_aload_n F dX8_make_550 2 rfl rfl ?_
  refine gf_X8_13_X8 (v := .int x) F dX8_make_551 hc rfl ?_
  refine g_aload_n F dX8_make_554 2 rfl rfl ?_
  refine gf_X8_17_X8 (v := .int y) F dX8_make_555 hc rfl ?_
  refine g_callV (b := 22) (bs := 191) F dX8_make_558 mi_X2_addHand q1572 q1573 q1574 gc_X2 hT0 (ct_X2_addHand (x := x) (y := y) hT hE hI2 hY hKA) rfl rfl (nle rfl) (nle rfl) (nle rfl) (g_pT (fun v16 h_17 p18 => ?_)) (g_pTX (fun q19 h_20 x21 o22 => ?_))
  · obtain ⟨a23, f24, p18r, rfl, p18e, p18t⟩ := xS_e p18
    refine g_eqs (st' := [.int a23]) rfl ?_
    exact g_iret F dX8_make_561 (.inl ⟨_, rfl, xS_i p18r p18e p18t⟩)
  · obtain ⟨ci, fs, C9, T9, N9, hc9, hq9⟩ := xTh_any (xEs_i (by decide) (by decide)) x21
    exact gx_out F (fun x hx => (htb x hx).elim) hc9 hq9 o22 (.inr ⟨_, rfl, x21⟩)
set_option maxHeartbeats 4000000 in
set_option maxRecDepth 100000 in
theorem ct_X8_make_23 {K : gK} {h0 h : AH} {A : Nat → Nat → Nat} {o : Nat → Nat} {f : Nat → Int32} {nb nc nh nq Y : Nat} (hT : th K (gNw K h0) h A o f nb nc nh nq) (hE : gE h0 h) (hI : xI f nb nc nh nq Y) (hY9 : Y + 9 ≤ 1000000) {c0 : Nat} {x y : Int32} (hc : h c0 = some (.inr (18, [.ref (gAd K 23), .int x, .int y]))) (hKA : gKA K) (hKH : gKH K) : gCt K yX8_make w_X8_make 10 207 24 209 h [.ref c0, .ref (A 7 1)] (pM K h0 (A 7 1) (mkE 23) (mkR f nb nc nh nq 23 x y)) := by
  refine g_meth pf_X8_make (nle rfl) (fun p e s m args below meth c F hnm htb => ?_)
  have F : gFix K p s m args meth c cX8_make 4 RX8 (some .int) := F
  refine g_eql (lv' := [(0, .ref c0), (1, .ref (A 7 1))]) rfl ?_
  have hY : Y ≤ 1000000 := by omega
  have hTt := hT
  obtain ⟨⟨hT0, hTN⟩, -, -, hD, ⟨hB, hBN⟩, ⟨hCu, hCN⟩, ⟨hHa, hHN⟩, hQu, hDj, hSg⟩ := hTt
  have hRw := th.w hT
  have hI2 := hI
  obtain ⟨iC, iL, iBa, iWe, iDo, iCu, iMe⟩ := hI
  obtain ⟨f1, nb8, f2, nc12, f3, nh6, f4, nq12⟩ := iC
  have hC : mC f nb nc nh nq := ⟨f1, nb8, f2, nc12, f3, nh6, f4, nq12⟩
  have hneB : ∀ i j, i < nb → j < nb → i ≠ j → A 3 i ≠ A 3 j := fun i j hi hj z => tLs.ne hB hi hj (vB_ne (by omega) (by omega) z)
  have hneC : ∀ i j, i < nc → j < nc → i ≠ j → A 4 i ≠ A 4 j := fun i j hi hj z => tLs.ne hCu hi hj (vC_ne (by omega) (by omega) z)
  have hneH : ∀ i j, i < nh → j < nh → i ≠ j → A 5 i ≠ A 5 j := fun i j hi hj z => tLs.ne hHa hi hj (vH_ne (by omega) (by omega) z)
  obtain ⟨bw, hbw⟩ := hKH 23 (by decide)
  refine g_old hbw (fun hw9 => ?_)
  refine g_aload_n F dX8_make_0 0 rfl rfl ?_
  refine gf_X8_7_X8 (v := .ref (gAd K 23)) F dX8_make_1 hc rfl ?_
  refine g_astore_n (lv' := [(2, .ref (gAd K 23)), (0, .ref c0), (1, .ref (A 7 1))]) F dX8_make_4 rfl (by decide) rfl ?_
  refine g_iconst (v := (-1)) F dX8_make_5 rfl ?_
  refine g_istore_n (lv' := [(3, .int (-1)), (2, .ref (gAd K 23)), (0, .ref c0), (1, .ref (A 7 1))]) F dX8_make_6 rfl (by decide) rfl ?_
  refine g_aload_n F dX8_make_7 1 rfl rfl ?_
  refine g_callV F dX8_make_8 mi_J6_hashCode q1364 q1365 q1366 gc_J6 hw9 (ct_J6_hashCode hw9 (by decide)) rfl rfl (nle rfl) (nle rfl) (nle rfl) (g_pur ?_) g_purX
  refine g_lookup (off := 322) (tgt := 333) F dX8_make_11 (by decide) (by decide) (by decide) ?_
  refine g_iload_n F dX8_make_333 0 rfl rfl ?_
  refine g_tableOut (tgt := 562) F dX8_make_334 (by decide) (by decide) ?_
  refine g_aload_n F dX8_make_562 3 rfl rfl ?_
  refine g_aload_n F dX8_make_563 2 rfl rfl ?_
  refine gf_X8_13_X8 (v := .int x) F dX8_make_564 hc rfl ?_
  refine g_aload_n F dX8_make_567 2 rfl rfl ?_
  refine gf_X8_17_X8 (v := .int y) F dX8_make_568 hc rfl ?_
  refine g_callV (b := 22) (bs := 201) F dX8_make_571 mi_X2_moveHand q1583 q1584 q1585 gc_X2 hT0 (ct_X2_moveHand (x := x) (y := y) hT hE hI2 hY) rfl rfl (nle rfl) (nle rfl) (nle rfl) (g_pT (fun v8 h_9 p10 => ?_)) (g_pTX (fun q11 h_12 x13 o14 => ?_))
  · obtain ⟨a15, f16, p10r, rfl, p10e, p10t⟩ := xS_e p10
    refine g_eqs (st' := [.int a15]) rfl ?_
    exact g_iret F dX8_make_574 (.inl ⟨_, rfl, xS_i p10r p10e p10t⟩)
  · obtain ⟨ci, fs, C9, T9, N9, hc9, hq9⟩ := xTh_any (xEs_i (by decide) (by decide)) x13
    exact gx_out F (fun x hx => (htb x hx).elim) hc9 hq9 o14 (.inr ⟨_, rfl, x13⟩)
set_option maxHeartbeats 4000000 in
set_option maxRecDepth 100000 in
theorem ct_X8_make_18 {K : gK} {h0 h : AH} {A : Nat → Nat → Nat} {o : Nat → Nat} {f : Nat → Int32} {nb nc nh nq Y : Nat} (hT : th K (gNw K h0) h A o f nb nc nh nq) (hE : gE h0 h) (hI : xI f nb nc nh nq Y) (hY9 : Y + 9 ≤ 1000000) {c0 : Nat} {x y : Int32} (hc : h c0 = some (.inr (18, [.ref (gAd K 18), .int x, .int y]))) (hKA : gKA K) (hKH : gKH K) : gCt K yX8_make w_X8_make 10 207 24 209 h [.ref c0, .ref (A 7 1)] (pM K h0 (A 7 1) (mkE 18) (mkR f nb nc nh nq 18 x y)) := by
  refine g_meth pf_X8_make (nle rfl) (fun p e s m args below meth c F hnm htb => ?_)
  have F : gFix K p s m args meth c cX8_make 4 RX8 (some .int) := F
  refine g_eql (lv' := [(0, .ref c0), (1, .ref (A 7 1))]) rfl ?_
  have hY : Y ≤ 1000000 := by omega
  have hTt := hT
  obtain ⟨⟨hT0, hTN⟩, -, -, hD, ⟨hB, hBN⟩, ⟨hCu, hCN⟩, ⟨hHa, hHN⟩, hQu, hDj, hSg⟩ := hTt
  have hRw := th.w hT
  have hI2 := hI
  obtain ⟨iC, iL, iBa, iWe, iDo, iCu, iMe⟩ := hI
  obtain ⟨f1, nb8, f2, nc12, f3, nh6, f4, nq12⟩ := iC
  have hC : mC f nb nc nh nq := ⟨f1, nb8, f2, nc12, f3, nh6, f4, nq12⟩
  have hneB : ∀ i j, i < nb → j < nb → i ≠ j → A 3 i ≠ A 3 j := fun i j hi hj z => tLs.ne hB hi hj (vB_ne (by omega) (by omega) z)
  have hneC : ∀ i j, i < nc → j < nc → i ≠ j → A 4 i ≠ A 4 j := fun i j hi hj z => tLs.ne hCu hi hj (vC_ne (by omega) (by omega) z)
  have hneH : ∀ i j, i < nh → j < nh → i ≠ j → A 5 i ≠ A 5 j := fun i j hi hj z => tLs.ne hHa hi hj (vH_ne (by omega) (by omega) z)
  obtain ⟨bw, hbw⟩ := hKH 18 (by decide)
  refine g_old hbw (fun hw9 => ?_)
  refine g_aload_n F dX8_make_0 0 rfl rfl ?_
  refine gf_X8_7_X8 (v := .ref (gAd K 18)) F dX8_make_1 hc rfl ?_
  refine g_astore_n (lv' := [(2, .ref (gAd K 18)), (0, .ref c0), (1, .ref (A 7 1))]) F dX8_make_4 rfl (by decide) rfl ?_
  refine g_iconst (v := (-1)) F dX8_make_5 rfl ?_
  refine g_istore_n (lv' := [(3, .int (-1)), (2, .ref (gAd K 18)), (0, .ref c0), (1, .ref (A 7 1))]) F dX8_make_6 rfl (by decide) rfl ?_
  refine g_aload_n F dX8_make_7 1 rfl rfl ?_
  refine g_callV F dX8_make_8 mi_J6_hashCode q1364 q1365 q1366 gc_J6 hw9 (ct_J6_hashCode hw9 (by decide)) rfl rfl (nle rfl) (nle rfl) (nle rfl) (g_pur ?_) g_purX
  refine g_lookup (off := 265) (tgt := 276) F dX8_make_11 (by decide) (by decide) (by decide) ?_
  refine g_aload_n F dX8_make_276 1 rfl rfl ?_
  refine g_ldcS (i := 20) (id := 18) F rfl dX8_make_277 ?_
  refine g_callV F dX8_make_279 mi_J6_equals q1426 q1427 q1428 gc_J6 hw9 (ct_J6_equals hw9) rfl rfl (nle rfl) (nle rfl) (nle rfl) (g_pur ?_) g_purX
  refine g_if_eq (tgt := 333) F dX8_make_282 (by decide) (fun c15 => absurd c15 (by decide)) (fun c15 => ?_)
  refine g_bipush (v := 10) F dX8_make_285 rfl ?_
  refine g_istore_n (lv' := [(3, .int 10), (2, .ref (gAd K 18)), (0, .ref c0), (1, .ref (A 7 1))]) F dX8_make_287 rfl (by decide) rfl ?_
  refine g_goto (tgt := 333) F dX8_make_288 (by decide) ?_
  refine g_iload_n F dX8_make_333 0 rfl rfl ?_
  refine g_tableIn (off := 175) (tgt := 509) F dX8_make_334 (by decide) (by decide) rfl (by decide) ?_
  have r16 : h (A 0 0) = some (.inr (3, [.ref (A 1 0), .int 8])) := hRw.1 0 (by decide)
  obtain ⟨MD17, h18⟩ := hRw.2
  have l19 : lsO K (gNw K h0) h (A 1 0) (A 2 0) nb (A 3) (MD17 0) := h18 0 (by decide)
  refine g_aload_n F dX8_make_509 3 rfl rfl ?_
  refine gf_X8_86_X2 (v := .ref (A 0 0)) F dX8_make_510 hT0 rfl ?_
  refine g_new (fs := [.int 0, .int 0, .int 0, .int 0, .int 0, .int 0, .int 0]) (b := 23) (bs := 202) F in_X5 tyX5 tyX5_ok q1531 q524 q88 gc_X5 nf_X5 dX8_make_513 (fun q20 h_21 hn_e22 ho_e22 e22 => ?_)
  have w23 := gE.no hE hn_e22
  have d24 := gnew hn_e22 hT0
  have d25 := gnew hn_e22 hc
  have d26 := gnew hn_e22 hw9
  have d27 := gnew hn_e22 r16
  have d28 := gnew hn_e22 (l19).1
  have x29 := gE.new1 hE e22 hn_e22
  have f30 := gu_t e22 hT0 d24
  have f31 := gu_t e22 hc d25
  have f32 := gu_t e22 hw9 d26
  have f33 := gu_t e22 r16 d27
  have t34 := lsO.up (gE.new1 gE.rf e22 hn_e22) l19
  have t35 := th.up (gE.new1 gE.rf e22 hn_e22) hT
  have t36 := thW.up (gE.new1 gE.rf e22 hn_e22) hRw
  have t37 := tDo.up (gE.new1 gE.rf e22 hn_e22) hD
  have t38 := tLs.up (gE.new1 gE.rf e22 hn_e22) hB
  have t39 := tLs.up (gE.new1 gE.rf e22 hn_e22) hCu
  have t40 := tLs.up (gE.new1 gE.rf e22 hn_e22) hHa
  have t41 := tLs.up (gE.new1 gE.rf e22 hn_e22) hQu
  have f42 := gu_a e22
  refine g_dup F dX8_make_516 rfl ?_
  refine g_aload_n F dX8_make_517 3 rfl rfl ?_
  refine gf_X8_86_X2 (v := .ref (A 0 0)) F dX8_make_518 f30 rfl ?_
  refine g_callV F dX8_make_521 mi_X3_size q1532 q307 q308 gc_X3 f33 (ct_X3_size f33 t34) rfl rfl (nle rfl) (nle rfl) (nle rfl) (g_pur ?_) g_purX
  refine g_callI F dX8_make_524 mi_X5_init rfl q1533 q526 (ct_X5_init f42 ho_e22) rfl rfl (nle rfl) (nle rfl) (nle rfl) (g_purv ?_) g_purvX
  refine g_gen (fun h_57 e58 => ?_)
  have x59 := gE.wr1 x29 e58 w23
  have e60 := (by rw [e58, e22, gu_gu] : h_57 = gu h q20 _)
  have f61 := gu_t e58 f30 d24
  have f62 := gu_t e58 f31 d25
  have f63 := gu_t e58 f32 d26
  have f64 := gu_t e58 f33 d27
  have t65 := lsO.up (gE.new1 gE.rf e60 hn_e22) l19
  have t66 := th.up (gE.new1 gE.rf e60 hn_e22) hT
  have t67 := thW.up (gE.new1 gE.rf e60 hn_e22) hRw
  have t68 := tDo.up (gE.new1 gE.rf e60 hn_e22) hD
  have t69 := tLs.up (gE.new1 gE.rf e60 hn_e22) hB
  have t70 := tLs.up (gE.new1 gE.rf e60 hn_e22) hCu
  have t71 := tLs.up (gE.new1 gE.rf e60 hn_e22) hHa
  have t72 := tLs.up (gE.new1 gE.rf e60 hn_e22) hQu
  have f73 := gu_a e58
  rcases Classical.em (nb = 8) with hn | hn
  · refine g_callV (b := 22) (bs := 196) F dX8_make_527 mi_X3_add q1534 q1535 q1536 gc_X3 f64 (cx_X3_add f64 t65 (by rw [hn]; decide)) rfl rfl (nle rfl) (nle rfl) (nle rfl) g_pXV (g_pXX (fun q77 h_78 x79 o80 => ?_))
    have x81 := gE.tr x59 x79.2
    have f82 := x79.2 _ _ f61
    have f83 := x79.2 _ _ f62
    have f84 := x79.2 _ _ f63
    have f85 := x79.2 _ _ f64
    have f86 := x79.2 _ _ f73
    have t87 := lsO.up x79.2 t65
    have t88 := th.up x79.2 t66
    have t89 := thW.up x79.2 t67
    have t90 := tDo.up x79.2 t68
    have t91 := tLs.up x79.2 t69
    have t92 := tLs.up x79.2 t70
    have t93 := tLs.up x79.2 t71
    have t94 := tLs.up x79.2 t72
    exact gx_out F (fun x hx => (htb x hx).elim) gc_J23 x79.1 o80 (.inr ⟨_, rfl, xTh_n (if_pos hn) ⟨x79.1, x81⟩⟩)
  · refine g_callV (b := 22) (bs := 187) F dX8_make_527 mi_X3_add q1534 q1535 q1536 gc_X3 f64 (ct_X3_add f64 t65 x59 (by omega) (fun i hi => gOb_b (t69 i hi)) (gOb_b f73) hKA (show nI nb < 8 from nI_lt (b := 8) (by omega) (by decide))) rfl rfl (nle rfl) (nle rfl) (nle rfl) (g_pO (fun v95 h_96 p97 => ?_)) g_pOX
    obtain ⟨rfl, p97⟩ := p97
    have f102 := lsG.ob p97 t65 f73 (by decide)
    have x103 := lsG.E p97
    refine g_eqs (st' := [.int (nI nb)]) rfl ?_
    have he : ∀ j, (j ≠ 1 ∧ (j < 11 + 4 * nb ∨ 14 + 4 * nb < j)) → (upd (upd (upd (upd (upd f (11 + 4 * nb) 0) (12 + 4 * nb) 0) (13 + 4 * nb) 0) (14 + 4 * nb) 0) 1 (nI (nb + 1))) j = f j := fun j hj => by rw [pk_un hj.1, pk_un (by omega), pk_un (by omega), pk_un (by omega), pk_un (by omega)]
    have hz1 : (upd (upd (upd (upd (upd f (11 + 4 * nb) 0) (12 + 4 * nb) 0) (13 + 4 * nb) 0) (14 + 4 * nb) 0) 1 (nI (nb + 1))) (11 + 4 * nb) = 0 := by rw [pk_un (by omega), pk_un (by omega), pk_un (by omega), pk_un (by omega), pk_us]
    have hz2 : (upd (upd (upd (upd (upd f (11 + 4 * nb) 0) (12 + 4 * nb) 0) (13 + 4 * nb) 0) (14 + 4 * nb) 0) 1 (nI (nb + 1))) (12 + 4 * nb) = 0 := by rw [pk_un (by omega), pk_un (by omega), pk_un (by omega), pk_us]
    have hz3 : (upd (upd (upd (upd (upd f (11 + 4 * nb) 0) (12 + 4 * nb) 0) (13 + 4 * nb) 0) (14 + 4 * nb) 0) 1 (nI (nb + 1))) (13 + 4 * nb) = 0 := by rw [pk_un (by omega), pk_un (by omega), pk_us]
    have hz4 : (upd (upd (upd (upd (upd f (11 + 4 * nb) 0) (12 + 4 * nb) 0) (13 + 4 * nb) 0) (14 + 4 * nb) 0) 1 (nI (nb + 1))) (14 + 4 * nb) = 0 := by rw [pk_un (by omega), pk_us]
    have hl0 : mLoad (upd (upd (upd (upd (upd f (11 + 4 * nb) 0) (12 + 4 * nb) 0) (13 + 4 * nb) 0) (14 + 4 * nb) 0) 1 (nI (nb + 1))) nc (nI nb) = 0 ∧ mCnt (upd (upd (upd (upd (upd f (11 + 4 * nb) 0) (12 + 4 * nb) 0) (13 + 4 * nb) 0) (14 + 4 * nb) 0) 1 (nI (nb + 1))) nc (nI nb) = 0 := by rw [mLoad_c nc12 (fun z h1 h2 => he z (by omega)), mCnt_c nc12 (fun z h1 h2 => he z (by omega))]; exact load0 nb8 iL
    exact g_iret F dX8_make_530 (.inl ⟨_, rfl, xS_i (if_neg hn) x103 (by obtain ⟨A', a1, a2⟩ := th_addB (f' := upd (upd (upd (upd (upd f (11 + 4 * nb) 0) (12 + 4 * nb) 0) (13 + 4 * nb) 0) (14 + 4 * nb) 0) 1 (nI (nb + 1))) F.inj hKA t66 p97 (by rw [show vB (upd (upd (upd (upd (upd f (11 + 4 * nb) 0) (12 + 4 * nb) 0) (13 + 4 * nb) 0) (14 + 4 * nb) 0) 1 (nI (nb + 1))) nc nb = [.int (nI nb), .int 0, .int 0, .int 0, .int 0, .int 0, .int 0] from by unfold vB; rw [hz1, hz2, hz3, hz4, hl0.1, hl0.2]]; exact f102) ⟨w23, ho_e22⟩ (by unfold vT; rw [(show mOn (upd (upd (upd (upd (upd f (11 + 4 * nb) 0) (12 + 4 * nb) 0) (13 + 4 * nb) 0) (14 + 4 * nb) 0) 1 (nI (nb + 1))) (nb + 1) = mOn f nb from (mSum_l (g := fun k => (upd (upd (upd (upd (upd f (11 + 4 * nb) 0) (12 + 4 * nb) 0) (13 + 4 * nb) 0) (14 + 4 * nb) 0) 1 (nI (nb + 1))) (12 + 4 * k)) hz2).trans (mSum_c (fun k hk => he _ (by omega)))), he 5 (by omega), he 6 (by omega), he 0 (by omega), he 7 (by omega), he 8 (by omega), he 10 (by omega)]) (fun j h1 h2 => he j (by omega)) (fun i hi => vB_c nc12 (fun z hz => he z (by omega))) (fun i hi => vC_c (fun z h1 h2 => he z (by omega))) (fun i hi => vH_c (fun z h1 h2 => he z (by omega))) (fun i hi => vQ_c (fun z h1 h2 => he z (by omega))); exact ⟨A', o, nb + 1, nc, nh, nq, a1, (xBar_I hI2 (if_neg hn)).1, a2⟩)⟩)
theorem ct_X8_makeA {K : gK} {h0 h : AH} {A : Nat → Nat → Nat} {o : Nat → Nat} {f : Nat → Int32} {nb nc nh nq Y : Nat} (hT : th K (gNw K h0) h A o f nb nc nh nq) (hE : gE h0 h) (hI : xI f nb nc nh nq Y) (hY9 : Y + 9 ≤ 1000000) {c0 : Nat} {x y : Int32}  {id : Nat} (hid : id ∈ mkIds) (hc : h c0 = some (.inr (18, [.ref (gAd K id), .int x, .int y]))) (hKA : gKA K) (hKH : gKH K) : gCt K yX8_make w_X8_make 10 207 24 209 h [.ref c0, .ref (A 7 1)] (pM K h0 (A 7 1) (mkE id) (mkR f nb nc nh nq id x y)) := by
  simp only [mkIds, List.mem_cons, List.not_mem_nil, or_false] at hid
  rcases hid with rfl | rfl | rfl | rfl | rfl | rfl | rfl | rfl | rfl | rfl | rfl | rfl | rfl | rfl | rfl
  · exact ct_X8_make_7 hT hE hI hY9 hc hKA hKH
  · exact ct_X8_make_9 hT hE hI hY9 hc hKA hKH
  · exact ct_X8_make_10 hT hE hI hY9 hc hKA hKH
  · exact ct_X8_make_11 hT hE hI hY9 hc hKA hKH
  · exact ct_X8_make_12 hT hE hI hY9 hc hKA hKH
  · exact ct_X8_make_13 hT hE hI hY9 hc hKA hKH
  · exact ct_X8_make_14 hT hE hI hY9 hc hKA hKH
  · exact ct_X8_make_15 hT hE hI hY9 hc hKA hKH
  · exact ct_X8_make_16 hT hE hI hY9 hc hKA hKH
  · exact ct_X8_make_17 hT hE hI hY9 hc hKA hKH
  · exact ct_X8_make_18 hT hE hI hY9 hc hKA hKH
  · exact ct_X8_make_19 hT hE hI hY9 hc hKA hKH
  · exact ct_X8_make_20 hT hE hI hY9 hc hKA hKH
  · exact ct_X8_make_21 hT hE hI hY9 hc hKA hKH
  · exact ct_X8_make_23 hT hE hI hY9 hc hKA hKH
theorem xEs_m {id : Nat} : xEs (mkE id) := by
  unfold mkE
  split <;> first | exact xEs_c (by decide) | exact xEs_i (by decide) (by decide)
set_option maxHeartbeats 4000000 in
set_option maxRecDepth 100000 in
theorem ct_X2_playable {K : gK} {N : Nat → Prop} {h : AH} {A : Nat → Nat → Nat} {o : Nat → Nat} {f : Nat → Int32} {nb nc nh nq : Nat} (hT : th K N h A o f nb nc nh nq) {Y : Nat} (hI : xI f nb nc nh nq Y) (hY : Y ≤ 1000000) (hKA : gKA K) : gCt K yX2_playable w_X2_playable 9 207 398 3469 h [.ref (A 7 1)] (pO (fun v h9 => v = some (.int (nI (qPl nc nh nq (xAh f nq) f))) ∧ gE h h9)) := by
  refine g_methW pf_X2_playable (nle rfl) (fun p e s m args below meth c F hnm htb => ?_)
  have F : gFix K p s m args meth c cX2_playable 4 RX2 (some .int) := F
  refine g_eql (lv' := [(0, .ref (A 7 1))]) rfl ?_
  have hTt := hT
  obtain ⟨⟨hT0, hTN⟩, hRw, ⟨MD, hLs⟩, ⟨dz, hZ0, hZN, hZo, hZd⟩, ⟨hB, hBN⟩, ⟨hCu, hCN⟩, ⟨hHa, hHN⟩, hQu, hDj, hSg⟩ := hTt
  have hR0 : h (A 0 0) = some (.inr (3, [.ref (A 1 0), .int 8])) := hRw 0 (by decide)
  have hR1 : h (A 0 1) = some (.inr (3, [.ref (A 1 1), .int 12])) := hRw 1 (by decide)
  have hR2 : h (A 0 2) = some (.inr (3, [.ref (A 1 2), .int 6])) := hRw 2 (by decide)
  have hR3 : h (A 0 3) = some (.inr (3, [.ref (A 1 3), .int 12])) := hRw 3 (by decide)
  have hL0 : lsO K N h (A 1 0) (A 2 0) nb (A 3) (MD 0) := hLs 0 (by decide)
  have hL1 : lsO K N h (A 1 1) (A 2 1) nc (A 4) (MD 1) := hLs 1 (by decide)
  have hL2 : lsO K N h (A 1 2) (A 2 2) nh (A 5) (MD 2) := hLs 2 (by decide)
  have hL3 : lsO K N h (A 1 3) (A 2 3) nq (fun i => A 6 (o i)) (MD 3) := hLs 3 (by decide)
  have nb15 : nb ≤ 15 := hL0.2.2.1
  have nc15 : nc ≤ 15 := hL1.2.2.1
  have nh15 : nh ≤ 15 := hL2.2.2.1
  have nq15 : nq ≤ 15 := hL3.2.2.1
  have hI2 := hI
  obtain ⟨iC, iL, iBa, iWe, iDo, iCu, iMe⟩ := hI
  obtain ⟨f1, nb8, f2, nc12, f3, nh6, f4, nq12⟩ := iC
  refine g_aload_n F dX2_playable_0 0 rfl rfl ?_
  refine g_callV (b := 312) (bs := 2717) F dX2_playable_1 mi_X2_copy q330 q331 q332 gc_X2 hT0 (ct_X2_copy hT hI2 hKA) rfl rfl (nle rfl) (nle rfl) (nle rfl) (g_pO (fun v1 h_2 p3 => ?_)) g_pOX
  obtain ⟨t9, rfl, hNt, hEc, hTc⟩ := p3
  have x8 := gE.tr gE.rf hEc
  refine g_eqs (st' := [.ref t9]) rfl ?_
  refine g_astore_n (lv' := [(1, .ref t9), (0, .ref (A 7 1))]) F dX2_playable_4 rfl (by decide) rfl ?_
  refine g_iconst (v := 0) F dX2_playable_5 rfl ?_
  refine g_istore_n (lv' := [(2, .int 0), (1, .ref t9), (0, .ref (A 7 1))]) F dX2_playable_6 rfl (by decide) rfl ?_
  have lp7 : ∀ k, k ≤ 12 → ∀ (h9 : AH) (g9 : Nat → Int32), (gE h h9) → (thE K (gNw K h) h9 t9 g9) → (xI g9 nb nc nh nq Y) → (qPl nc nh nq (xAh f nq) f = k + qPl nc nh nq (xAh g9 nq) g9) → (k + xAh g9 nq ≤ 12) → G K p e s m args below meth c (gRm 9 207 398 3469) 4 (pO (fun v h9 => v = some (.int (nI (qPl nc nh nq (xAh f nq) f))) ∧ gE h h9)) h9 (24 * (13 - k) + 0) (209 * (13 - k) + 0) 7 [(0, .ref (A 7 1)), (1, .ref t9), (2, .int (nI k))] [] := by
    refine gloop 12 (fun k hk ih => ?_)
    intro h9 g9 hE9 hT9 hI9 hq9 hk9
    refine g_iload_n F dX2_playable_7 2 rfl rfl ?_
    refine g_bipush (v := 12) F dX2_playable_8 rfl ?_
    refine g_icmp_gt (tgt := 24) F dX2_playable_10 (by decide) (fun c9 => absurd c9 ((Int32.not_lt.mpr (show nI k ≤ 12 from nI_le (b := 12) (by omega) (by decide))))) (fun c9 => ?_)
    refine g_room (b' := (24 * (13 - (k + 1)) + 0) + 24) (bs' := (209 * (13 - (k + 1)) + 0) + 209) (by omega) (by omega) ?_
    refine g_aload_n F dX2_playable_13 1 rfl rfl ?_
    obtain ⟨A9, o9, hA9, hT10⟩ := hT9.get hI9.1
    have hga := ct_X2_go (h0 := h) hT10 hE9 hI9 hY hKA
    rw [hA9] at hga
    refine g_callV (b := (24 * (13 - (k + 1)) + 0)) (bs := (209 * (13 - (k + 1)) + 0)) F dX2_playable_14 mi_X2_go q722 q723 q724 gc_X2 (by rw [← hA9]; exact hT10.1.1) hga rfl rfl (nle rfl) (nle rfl) (nle rfl) (g_pT (fun v10 h_11 p12 => ?_)) (g_pTX (fun q13 h_14 x15 o16 => ?_))
    · obtain ⟨a9, g2, p12r, rfl, p12e, p12t⟩ := xS_e p12
      have hlt : k < 12 := (pl_s hI9.1 hI9.2.1 p12r hk9).2.2
      refine g_eqs (st' := [.int a9]) rfl ?_
      refine g_istore_n (lv' := [(3, .int a9), (0, .ref (A 7 1)), (1, .ref t9), (2, .int (nI k))]) F dX2_playable_17 rfl (by decide) rfl ?_
      refine g_iinc (lv' := [(2, .int ((nI k) + 1)), (3, .int a9), (0, .ref (A 7 1)), (1, .ref t9)]) (v := (nI k) + 1) F dX2_playable_18 (k := 3) rfl rfl (by decide) rfl ?_
      refine g_goto (tgt := 7) F dX2_playable_21 (by decide) ?_
      refine g_lv (lv' := [(0, .ref (A 7 1)), (1, .ref t9), (2, .int ((nI k) + 1))]) [2, 3, 0] rfl ?_
      refine g_room (b' := (24 * (13 - (k + 1)) + 0)) (bs' := (209 * (13 - (k + 1)) + 0)) (by omega) (by omega) ?_
      exact g_eql (lv' := [(0, .ref (A 7 1)), (1, .ref t9), (2, .int (nI (k + 1)))]) (by simp only [nI_1]) (ih hlt h_11 g2 p12e p12t (xGo_I hI9 p12r) (hq9.trans (pl_s hI9.1 hI9.2.1 p12r hk9).1) (pl_s hI9.1 hI9.2.1 p12r hk9).2.1)
    · obtain ⟨p9, a9, b9, x15r, x15t⟩ : ∃ (p : Nat) (a b : Int32), xGo g9 nc nh nq = .inr (p, some (a, b)) ∧ tX h 20 [.null, .null, .null, .null, .null, .int 0, .int a, .int b] q13 h_14 := by rcases xTh_e x15 with ⟨p, z, -⟩ | z; exact absurd rfl (xGo_s z); exact z
      refine gx_catch F [] ⟨7, 25, 26, 103⟩ [] (by rw [htb]; rfl) (fun z hz => absurd hz (List.not_mem_nil)) (by decide) (by decide) q329 gFit.rf gc_X10 x15t.1 o16 ?_
      refine g_astore_n (lv' := [(3, .ref q13), (0, .ref (A 7 1)), (1, .ref t9), (2, .int (nI k))]) F dX2_playable_26 rfl (by decide) rfl ?_
      refine g_iload_n F dX2_playable_27 3 rfl rfl ?_
      exact g_iret F dX2_playable_28 (⟨_, rfl, by rw [hq9, qPl_r x15r, Nat.add_zero], x15t.2⟩)
  refine g_lv (lv' := [(0, .ref (A 7 1)), (1, .ref t9), (2, .int 0)]) [2, 1, 0] rfl ?_
  exact lp7 0 (Nat.zero_le _) h_2 f x8 hTc hI2 (Nat.zero_add _).symm (by have := xCt_n (P := fun k => decide (f 7 < f (83 + 4 * k))) (n := nq); show 0 + xCt _ nq ≤ 12; omega)
