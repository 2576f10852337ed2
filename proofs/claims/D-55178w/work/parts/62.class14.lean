/-! ===== The theatre: changes (written by tools/class14.py) ===== -/
set_option maxHeartbeats 4000000 in
set_option maxRecDepth 100000 in
theorem ct_X1_checkFloor {K : gK} {h : AH} {x : Int32} (hx : mIn x 0 2 ≠ 0) : gCt K yX1_checkFloor w_X1_checkFloor 1 25 0 0 h [.int x] (pV h) := by
  refine g_meth pf_X1_checkFloor (nle rfl) (fun p e s m args below meth c F hnm htb => ?_)
  have F : gFix K p s m args meth c cX1_checkFloor 1 RX1 none := F
  refine g_eql (lv' := [(0, .int x)]) rfl ?_
  refine g_iload_n F dX1_checkFloor_0 0 rfl rfl ?_
  refine g_i2l F dX1_checkFloor_1 rfl ?_
  refine g_lconst (v := 0) F dX1_checkFloor_2 rfl ?_
  refine g_ldc2 F q1579 dX1_checkFloor_3 ?_
  refine g_eqs (st' := [.long (Int32.toInt64 2), .long (Int32.toInt64 0), .long x.toInt64]) rfl ?_
  refine g_callS F dX1_checkFloor_6 mi_X1_inRange q1512 q1460 (ct_X1_inRange (x := x) (lo := 0) (hi := 2)) rfl rfl (nle rfl) (nle rfl) (nle rfl) (g_pur ?_) g_purX
  refine g_callS F dX1_checkFloor_9 mi_X1_checkArgument q1513 q1497 (ct_X1_checkArgument hx) rfl rfl (nle rfl) (nle rfl) (nle rfl) (g_purv ?_) g_purvX
  exact g_vret F dX1_checkFloor_12 (⟨rfl, rfl⟩)
set_option maxHeartbeats 4000000 in
set_option maxRecDepth 100000 in
theorem cx_X1_checkFloor {K : gK} {h : AH} {x : Int32} (hx : mIn x 0 2 = 0) : gCt K yX1_checkFloor w_X1_checkFloor 7 101 1 6 h [.int x] (pX (tX h 22 [])) := by
  refine g_meth pf_X1_checkFloor (nle rfl) (fun p e s m args below meth c F hnm htb => ?_)
  have F : gFix K p s m args meth c cX1_checkFloor 1 RX1 none := F
  refine g_eql (lv' := [(0, .int x)]) rfl ?_
  refine g_iload_n F dX1_checkFloor_0 0 rfl rfl ?_
  refine g_i2l F dX1_checkFloor_1 rfl ?_
  refine g_lconst (v := 0) F dX1_checkFloor_2 rfl ?_
  refine g_ldc2 F q1579 dX1_checkFloor_3 ?_
  refine g_eqs (st' := [.long (Int32.toInt64 2), .long (Int32.toInt64 0), .long x.toInt64]) rfl ?_
  refine g_callS F dX1_checkFloor_6 mi_X1_inRange q1512 q1460 (ct_X1_inRange (x := x) (lo := 0) (hi := 2)) rfl rfl (nle rfl) (nle rfl) (nle rfl) (g_pur ?_) g_purX
  refine g_eqs (st' := [.int 0]) (by rw [hx]) ?_
  refine g_callS (b := 0) (bs := 0) F dX1_checkFloor_9 mi_X1_checkArgument q1513 q1497 cx_X1_checkArgument rfl rfl (nle rfl) (nle rfl) (nle rfl) g_pXV (g_pXX (fun q11 h_12 x13 o14 => ?_))
  have x15 := gE.tr gE.rf x13.2
  exact gx_out F (fun x hx => (htb x hx).elim) gc_J19 x13.1 o14 (⟨_, rfl, x13.1, x15⟩)
set_option maxHeartbeats 4000000 in
set_option maxRecDepth 100000 in
theorem ct_X1_checkHeight {K : gK} {h : AH} {x : Int32} (hx : mIn x 0 20 ≠ 0) : gCt K yX1_checkHeight w_X1_checkHeight 1 25 0 0 h [.int x] (pV h) := by
  refine g_meth pf_X1_checkHeight (nle rfl) (fun p e s m args below meth c F hnm htb => ?_)
  have F : gFix K p s m args meth c cX1_checkHeight 1 RX1 none := F
  refine g_eql (lv' := [(0, .int x)]) rfl ?_
  refine g_iload_n F dX1_checkHeight_0 0 rfl rfl ?_
  refine g_i2l F dX1_checkHeight_1 rfl ?_
  refine g_lconst (v := 0) F dX1_checkHeight_2 rfl ?_
  refine g_ldc2 F q1511 dX1_checkHeight_3 ?_
  refine g_eqs (st' := [.long (Int32.toInt64 20), .long (Int32.toInt64 0), .long x.toInt64]) rfl ?_
  refine g_callS F dX1_checkHeight_6 mi_X1_inRange q1512 q1460 (ct_X1_inRange (x := x) (lo := 0) (hi := 20)) rfl rfl (nle rfl) (nle rfl) (nle rfl) (g_pur ?_) g_purX
  refine g_callS F dX1_checkHeight_9 mi_X1_checkArgument q1513 q1497 (ct_X1_checkArgument hx) rfl rfl (nle rfl) (nle rfl) (nle rfl) (g_purv ?_) g_purvX
  exact g_vret F dX1_checkHeight_12 (⟨rfl, rfl⟩)
set_option maxHeartbeats 4000000 in
set_option maxRecDepth 100000 in
theorem cx_X1_checkHeight {K : gK} {h : AH} {x : Int32} (hx : mIn x 0 20 = 0) : gCt K yX1_checkHeight w_X1_checkHeight 7 101 1 6 h [.int x] (pX (tX h 22 [])) := by
  refine g_meth pf_X1_checkHeight (nle rfl) (fun p e s m args below meth c F hnm htb => ?_)
  have F : gFix K p s m args meth c cX1_checkHeight 1 RX1 none := F
  refine g_eql (lv' := [(0, .int x)]) rfl ?_
  refine g_iload_n F dX1_checkHeight_0 0 rfl rfl ?_
  refine g_i2l F dX1_checkHeight_1 rfl ?_
  refine g_lconst (v := 0) F dX1_checkHeight_2 rfl ?_
  refine g_ldc2 F q1511 dX1_checkHeight_3 ?_
  refine g_eqs (st' := [.long (Int32.toInt64 20), .long (Int32.toInt64 0), .long x.toInt64]) rfl ?_
  refine g_callS F dX1_checkHeight_6 mi_X1_inRange q1512 q1460 (ct_X1_inRange (x := x) (lo := 0) (hi := 20)) rfl rfl (nle rfl) (nle rfl) (nle rfl) (g_pur ?_) g_purX
  refine g_eqs (st' := [.int 0]) (by rw [hx]) ?_
  refine g_callS (b := 0) (bs := 0) F dX1_checkHeight_9 mi_X1_checkArgument q1513 q1497 cx_X1_checkArgument rfl rfl (nle rfl) (nle rfl) (nle rfl) g_pXV (g_pXX (fun q11 h_12 x13 o14 => ?_))
  have x15 := gE.tr gE.rf x13.2
  exact gx_out F (fun x hx => (htb x hx).elim) gc_J19 x13.1 o14 (⟨_, rfl, x13.1, x15⟩)
set_option maxHeartbeats 4000000 in
set_option maxRecDepth 100000 in
theorem ct_X5_checkLow {K : gK} {h : AH} {a : Nat} {b0 b1 b2 b3 b4 b5 b6 : Int32} (ha : h a = some (.inr (9, [.int b0, .int b1, .int b2, .int b3, .int b4, .int b5, .int b6]))) (h1 : b1 = 0) : gCt K yX5_checkLow w_X5_checkLow 1 22 0 0 h [.ref a] (pV h) := by
  refine g_meth pf_X5_checkLow (nle rfl) (fun p e s m args below meth c F hnm htb => ?_)
  have F : gFix K p s m args meth c cX5_checkLow 1 RX5 none := F
  refine g_eql (lv' := [(0, .ref a)]) rfl ?_
  refine g_aload_n F dX5_checkLow_0 0 rfl rfl ?_
  refine gf_X5_18_X5 (v := .int b1) F dX5_checkLow_1 ha rfl ?_
  refine g_if_ne (tgt := 11) F dX5_checkLow_4 (by decide) (fun c1 => absurd c1 ((fun z => z h1))) (fun c1 => ?_)
  refine g_iconst (v := 1) F dX5_checkLow_7 rfl ?_
  refine g_goto (tgt := 12) F dX5_checkLow_8 (by decide) ?_
  refine g_bipush (v := 8) F dX5_checkLow_12 rfl ?_
  refine g_aload_n F dX5_checkLow_14 0 rfl rfl ?_
  refine gf_X5_18_X5 (v := .int b1) F dX5_checkLow_15 ha rfl ?_
  refine g_callS F dX5_checkLow_18 mi_X10_check q1480 q1143 (ct_X10_check (by decide)) rfl rfl (nle rfl) (nle rfl) (nle rfl) (g_purv ?_) g_purvX
  exact g_vret F dX5_checkLow_21 (⟨rfl, rfl⟩)
set_option maxHeartbeats 4000000 in
set_option maxRecDepth 100000 in
theorem cx_X5_checkLow {K : gK} {h : AH} {a : Nat} {b0 b1 b2 b3 b4 b5 b6 : Int32} (ha : h a = some (.inr (9, [.int b0, .int b1, .int b2, .int b3, .int b4, .int b5, .int b6]))) (h1 : b1 ≠ 0) : gCt K yX5_checkLow w_X5_checkLow 5 104 1 8 h [.ref a] (pX (tX h 20 [.null, .null, .null, .null, .null, .int 0, .int 8, .int b1])) := by
  refine g_meth pf_X5_checkLow (nle rfl) (fun p e s m args below meth c F hnm htb => ?_)
  have F : gFix K p s m args meth c cX5_checkLow 1 RX5 none := F
  refine g_eql (lv' := [(0, .ref a)]) rfl ?_
  refine g_aload_n F dX5_checkLow_0 0 rfl rfl ?_
  refine gf_X5_18_X5 (v := .int b1) F dX5_checkLow_1 ha rfl ?_
  refine g_if_ne (tgt := 11) F dX5_checkLow_4 (by decide) (fun c1 => ?_) (fun c1 => absurd c1 (h1))
  refine g_iconst (v := 0) F dX5_checkLow_11 rfl ?_
  refine g_bipush (v := 8) F dX5_checkLow_12 rfl ?_
  refine g_aload_n F dX5_checkLow_14 0 rfl rfl ?_
  refine gf_X5_18_X5 (v := .int b1) F dX5_checkLow_15 ha rfl ?_
  refine g_callS (b := 0) (bs := 0) F dX5_checkLow_18 mi_X10_check q1480 q1143 cx_X10_check rfl rfl (nle rfl) (nle rfl) (nle rfl) g_pXV (g_pXX (fun q5 h_6 x7 o8 => ?_))
  have x9 := gE.tr gE.rf x7.2
  exact gx_out F (fun x hx => (htb x hx).elim) gc_X10 x7.1 o8 (⟨_, rfl, x7.1, x9⟩)
set_option maxHeartbeats 4000000 in
set_option maxRecDepth 100000 in
theorem ct_X5_carries_p {K : gK} {h : AH} {a : Nat} {b0 b1 b2 b3 b4 b5 b6 : Int32} (ha : h a = some (.inr (9, [.int b0, .int b1, .int b2, .int b3, .int b4, .int b5, .int b6]))) (hao : gOld K a = none) {z : Nat} {z0 z1 z2 : Int32} (hz : h z = some (.inr (10, [.int z0, .int z1, .int z2]))) (hzo : gOld K z = none) : gCt K yX5_carries w_X5_carries 0 0 0 0 h [.ref a, .ref z, .int 1] (pV (gu (gu h a (.inr (9, [.int b0, .int b1, .int (b2 + 1 * z1), .int (b3 + 1), .int b4, .int b5, .int b6]))) z (.inr (10, [.int z0, .int z1, .int b0])))) := by
  refine g_meth pf_X5_carries (nle rfl) (fun p e s m args below meth c F hnm htb => ?_)
  have F : gFix K p s m args meth c cX5_carries 3 RX5 none := F
  refine g_eql (lv' := [(0, .ref a), (1, .ref z), (2, .int 1)]) rfl ?_
  refine g_aload_n F dX5_carries_0 0 rfl rfl ?_
  refine g_dup F dX5_carries_1 rfl ?_
  refine gf_X5_21_X5 (v := .int b2) F dX5_carries_2 ha rfl ?_
  refine g_iload_n F dX5_carries_5 2 rfl rfl ?_
  refine g_aload_n F dX5_carries_6 1 rfl rfl ?_
  refine gf_X5_55_X6 (v := .int z1) F dX5_carries_7 hz rfl ?_
  refine g_imul F dX5_carries_10 ?_
  refine g_iadd F dX5_carries_11 ?_
  refine gp_X5_21_X5 (fs' := [.int b0, .int b1, .int (b2 + (1 * z1)), .int b3, .int b4, .int b5, .int b6]) F dX5_carries_12 ha hao (nle rfl) rfl (fun h_1 e2 => ?_)
  have f3 := gu_t e2 hz (gne hz ha (by decide))
  have f4 := gu_a e2
  refine g_aload_n F dX5_carries_15 0 rfl rfl ?_
  refine g_dup F dX5_carries_16 rfl ?_
  refine gf_X5_24_X5 (v := .int b3) F dX5_carries_17 f4 rfl ?_
  refine g_iload_n F dX5_carries_20 2 rfl rfl ?_
  refine g_iadd F dX5_carries_21 ?_
  refine gp_X5_24_X5 (fs' := [.int b0, .int b1, .int (b2 + (1 * z1)), .int (b3 + 1), .int b4, .int b5, .int b6]) F dX5_carries_22 f4 hao (nle rfl) rfl (fun h_5 e6 => ?_)
  have f7 := gu_t e6 f3 (gne f3 f4 (by decide))
  have f8 := gu_a e6
  refine g_aload_n F dX5_carries_25 1 rfl rfl ?_
  refine g_iload_n F dX5_carries_26 2 rfl rfl ?_
  refine g_if_le (tgt := 37) F dX5_carries_27 (by decide) (fun c9 => absurd c9 (by decide)) (fun c9 => ?_)
  refine g_aload_n F dX5_carries_30 0 rfl rfl ?_
  refine gf_X5_9_X5 (v := .int b0) F dX5_carries_31 f8 rfl ?_
  refine g_goto (tgt := 38) F dX5_carries_34 (by decide) ?_
  refine gp_X5_60_X6 (fs' := [.int z0, .int z1, .int b0]) F dX5_carries_38 f7 hzo (nle rfl) rfl (fun h_10 e11 => ?_)
  have f12 := gu_t e11 f8 (gne f8 f7 (by decide))
  have f13 := gu_a e11
  exact g_vret F dX5_carries_41 (⟨rfl, by rw [e11, e6, e2, gu_gu]⟩)
set_option maxHeartbeats 4000000 in
set_option maxRecDepth 100000 in
theorem ct_X5_carries_m {K : gK} {h : AH} {a : Nat} {b0 b1 b2 b3 b4 b5 b6 : Int32} (ha : h a = some (.inr (9, [.int b0, .int b1, .int b2, .int b3, .int b4, .int b5, .int b6]))) (hao : gOld K a = none) {z : Nat} {z0 z1 z2 : Int32} (hz : h z = some (.inr (10, [.int z0, .int z1, .int z2]))) (hzo : gOld K z = none) : gCt K yX5_carries w_X5_carries 0 0 0 0 h [.ref a, .ref z, .int (-1)] (pV (gu (gu h a (.inr (9, [.int b0, .int b1, .int (b2 + (-1) * z1), .int (b3 + (-1)), .int b4, .int b5, .int b6]))) z (.inr (10, [.int z0, .int z1, .int (-1)])))) := by
  refine g_meth pf_X5_carries (nle rfl) (fun p e s m args below meth c F hnm htb => ?_)
  have F : gFix K p s m args meth c cX5_carries 3 RX5 none := F
  refine g_eql (lv' := [(0, .ref a), (1, .ref z), (2, .int (-1))]) rfl ?_
  refine g_aload_n F dX5_carries_0 0 rfl rfl ?_
  refine g_dup F dX5_carries_1 rfl ?_
  refine gf_X5_21_X5 (v := .int b2) F dX5_carries_2 ha rfl ?_
  refine g_iload_n F dX5_carries_5 2 rfl rfl ?_
  refine g_aload_n F dX5_carries_6 1 rfl rfl ?_
  refine gf_X5_55_X6 (v := .int z1) F dX5_carries_7 hz rfl ?_
  refine g_imul F dX5_carries_10 ?_
  refine g_iadd F dX5_carries_11 ?_
  refine gp_X5_21_X5 (fs' := [.int b0, .int b1, .int (b2 + ((-1) * z1)), .int b3, .int b4, .int b5, .int b6]) F dX5_carries_12 ha hao (nle rfl) rfl (fun h_1 e2 => ?_)
  have f3 := gu_t e2 hz (gne hz ha (by decide))
  have f4 := gu_a e2
  refine g_aload_n F dX5_carries_15 0 rfl rfl ?_
  refine g_dup F dX5_carries_16 rfl ?_
  refine gf_X5_24_X5 (v := .int b3) F dX5_carries_17 f4 rfl ?_
  refine g_iload_n F dX5_carries_20 2 rfl rfl ?_
  refine g_iadd F dX5_carries_21 ?_
  refine gp_X5_24_X5 (fs' := [.int b0, .int b1, .int (b2 + ((-1) * z1)), .int (b3 + (-1)), .int b4, .int b5, .int b6]) F dX5_carries_22 f4 hao (nle rfl) rfl (fun h_5 e6 => ?_)
  have f7 := gu_t e6 f3 (gne f3 f4 (by decide))
  have f8 := gu_a e6
  refine g_aload_n F dX5_carries_25 1 rfl rfl ?_
  refine g_iload_n F dX5_carries_26 2 rfl rfl ?_
  refine g_if_le (tgt := 37) F dX5_carries_27 (by decide) (fun c9 => ?_) (fun c9 => absurd c9 (by decide))
  refine g_iconst (v := (-1)) F dX5_carries_37 rfl ?_
  refine gp_X5_60_X6 (fs' := [.int z0, .int z1, .int (-1)]) F dX5_carries_38 f7 hzo (nle rfl) rfl (fun h_10 e11 => ?_)
  have f12 := gu_t e11 f8 (gne f8 f7 (by decide))
  have f13 := gu_a e11
  exact g_vret F dX5_carries_41 (⟨rfl, by rw [e11, e6, e2, gu_gu]⟩)
set_option maxHeartbeats 4000000 in
set_option maxRecDepth 100000 in
theorem ct_X2_setTold {K : gK} {h0 h : AH} {A : Nat → Nat → Nat} {o : Nat → Nat} {f : Nat → Int32} {nb nc nh nq Y : Nat} (hT : th K (gNw K h0) h A o f nb nc nh nq) (hE : gE h0 h) (hI : xI f nb nc nh nq Y) (hY : Y ≤ 1000000) {x : Int32} : gCt K yX2_setTold w_X2_setTold 7 101 1 6 h [.ref (A 7 1), .int x] (pM K h0 (A 7 1) (fun _ => 22) (xTold f x)) := by
  refine g_meth pf_X2_setTold (nle rfl) (fun p e s m args below meth c F hnm htb => ?_)
  have F : gFix K p s m args meth c cX2_setTold 3 RX2 (some .int) := F
  refine g_eql (lv' := [(0, .ref (A 7 1)), (1, .int x)]) rfl ?_
  have hTt := hT
  obtain ⟨⟨hT0, hTN⟩, -, -, hD, ⟨hB, hBN⟩, ⟨hCu, hCN⟩, ⟨hHa, hHN⟩, hQu, hDj, hSg⟩ := hTt
  have hRw := th.w hT
  have hI2 := hI
  obtain ⟨iC, iL, iBa, iWe, iDo, iCu, iMe⟩ := hI
  obtain ⟨f1, nb8, f2, nc12, f3, nh6, f4, nq12⟩ := iC
  have hC : mC f nb nc nh nq := ⟨f1, nb8, f2, nc12, f3, nh6, f4, nq12⟩
  have hneB : ∀ i j, i < nb → j < nb → i ≠ j → A 3 i ≠ A 3 j := fun i j hi hj z => tLs.ne hB hi hj (vB_ne (by omega) (by omega) z)
  have hneC : ∀ i j, i < nc → j < nc → i ≠ j → A 4 i ≠ A 4 j := fun i j hi hj z => tLs.ne hCu hi hj (vC_ne (by omega) (by omega) z)
  have hneH : ∀ i j, i < nh → j < nh → i ≠ j → A 5 i ≠ A 5 j := fun i j hi hj z => tLs.ne hHa hi hj (vH_ne (by omega) (by omega) z)
  have he : ∀ j, j ≠ 5 → (upd f 5 x) j = f j := fun j hj => pk_un hj
  refine g_iload_n F dX2_setTold_0 1 rfl rfl ?_
  refine g_i2l F dX2_setTold_1 rfl ?_
  refine g_lconst (v := 0) F dX2_setTold_2 rfl ?_
  refine g_ldc2 F q1530 dX2_setTold_3 ?_
  refine g_eqs (st' := [.long (Int32.toInt64 40), .long (Int32.toInt64 0), .long x.toInt64]) rfl ?_
  refine g_callSN F dX2_setTold_6 mi_X1_inRange q1495 q1460 (ct_X1_inRange (x := x) (lo := 0) (hi := 40)) rfl rfl (nle rfl) (nle rfl) (nle rfl) (g_pur ?_) g_purX
  rcases Classical.em (mIn x 0 40 = 0) with hc | hc
  · refine g_eqs (st' := [.int 0]) (by rw [hc]) ?_
    refine g_callSN (b := 0) (bs := 0) F dX2_setTold_9 mi_X1_checkArgument q1496 q1497 cx_X1_checkArgument rfl rfl (nle rfl) (nle rfl) (nle rfl) g_pXV (g_pXX (fun q11 h_12 x13 o14 => ?_))
    have x15 := gE.tr hE x13.2
    have f16 := x13.2 _ _ hT0
    have t17 := th.up x13.2 hT
    have t18 := thW.up x13.2 hRw
    have t19 := tDo.up x13.2 hD
    have t20 := tLs.up x13.2 hB
    have t21 := tLs.up x13.2 hCu
    have t22 := tLs.up x13.2 hHa
    have t23 := tLs.up x13.2 hQu
    exact gx_out F (fun x hx => (htb x hx).elim) gc_J19 x13.1 o14 (.inr ⟨_, rfl, xTh_n (if_pos hc) ⟨x13.1, x15⟩⟩)
  · refine g_callSN F dX2_setTold_9 mi_X1_checkArgument q1496 q1497 (ct_X1_checkArgument hc) rfl rfl (nle rfl) (nle rfl) (nle rfl) (g_purv ?_) g_purvX
    refine g_aload_n F dX2_setTold_12 0 rfl rfl ?_
    refine gf_X2_33_X2 (v := .int (f 5)) F dX2_setTold_13 hT0 rfl ?_
    refine g_istore_n (lv' := [(2, .int (f 5)), (0, .ref (A 7 1)), (1, .int x)]) F dX2_setTold_16 rfl (by decide) rfl ?_
    refine g_aload_n F dX2_setTold_17 1 rfl rfl ?_
    refine g_iload_n F dX2_setTold_18 2 rfl rfl ?_
    refine gp_X2_33_X2 (fs' := [.ref (A 0 0), .ref (A 0 1), .ref (A 0 2), .ref (A 0 3), .ref (A 7 0), .int x, .int (60 - mOn f nb), .int (f 6), .int (f 0), .int (f 7), .int (f 8), .int (f 10)]) F dX2_setTold_19 hT0 hTN.2 (nle rfl) rfl (fun h_31 e32 => ?_)
    have x33 := gE.wr1 hE e32 hTN.1
    have t34 := thW.oth e32 hT0 (by decide) hRw
    have t35 := tDo.ot2 e32 hT0 (by decide) hD
    have t36 := tLs.oth e32 hT0 (by decide) hB
    have t37 := tLs.oth e32 hT0 (by decide) hCu
    have t38 := tLs.oth e32 hT0 (by decide) hHa
    have t39 := tLs.oth e32 hT0 (by decide) hQu
    have f40 := gu_a e32
    refine g_iload_n F dX2_setTold_22 0 rfl rfl ?_
    exact g_iret F dX2_setTold_23 (.inl ⟨_, rfl, xS_i (if_neg hc) x33 ⟨A, o, nb, nc, nh, nq, rfl, (mC_c hC (fun j h1 h2 => he j (by omega))), (th.of (f := upd f 5 x) (by rw [show vT (upd f 5 x) nb A = [.ref (A 0 0), .ref (A 0 1), .ref (A 0 2), .ref (A 0 3), .ref (A 7 0), .int x, .int (60 - mOn f nb), .int (f 6), .int (f 0), .int (f 7), .int (f 8), .int (f 10)] from by unfold vT; rw [mOn_c nb8 (fun j h1 h2 => he j (by omega)), pk_us, (he 6 (by omega)), (he 0 (by omega)), (he 7 (by omega)), (he 8 (by omega)), (he 10 (by omega))]]; exact f40) hTN t34 (tDo.c t35 (fun j h1 h2 => he j (by omega))) (tLs.c t36 (fun j hj => vB_c nc12 (fun z hz => he z (by omega)))) hBN (tLs.c t37 (fun j hj => vC_c (fun z h1 h2 => he z (by omega)))) hCN (tLs.c t38 (fun j hj => vH_c (fun z h1 h2 => he z (by omega)))) hHN (tLs.c t39 (fun j hj => vQ_c (fun z h1 h2 => he z (by omega)))) hDj hSg)⟩⟩)
set_option maxHeartbeats 4000000 in
set_option maxRecDepth 100000 in
theorem ct_X2_renew {K : gK} {h0 h : AH} {A : Nat → Nat → Nat} {o : Nat → Nat} {f : Nat → Int32} {nb nc nh nq Y : Nat} (hT : th K (gNw K h0) h A o f nb nc nh nq) (hE : gE h0 h) (hI : xI f nb nc nh nq Y) (hY : Y ≤ 1000000) {x : Int32} : gCt K yX2_renew w_X2_renew 9 143 1 8 h [.ref (A 7 1), .int x] (pM K h0 (A 7 1) (fun _ => 23) (xRope f nb x)) := by
  refine g_meth pf_X2_renew (nle rfl) (fun p e s m args below meth c F hnm htb => ?_)
  have F : gFix K p s m args meth c cX2_renew 4 RX2 (some .int) := F
  refine g_eql (lv' := [(0, .ref (A 7 1)), (1, .int x)]) rfl ?_
  have hTt := hT
  obtain ⟨⟨hT0, hTN⟩, -, -, hD, ⟨hB, hBN⟩, ⟨hCu, hCN⟩, ⟨hHa, hHN⟩, hQu, hDj, hSg⟩ := hTt
  have hRw := th.w hT
  have hI2 := hI
  obtain ⟨iC, iL, iBa, iWe, iDo, iCu, iMe⟩ := hI
  obtain ⟨f1, nb8, f2, nc12, f3, nh6, f4, nq12⟩ := iC
  have hC : mC f nb nc nh nq := ⟨f1, nb8, f2, nc12, f3, nh6, f4, nq12⟩
  have hneB : ∀ i j, i < nb → j < nb → i ≠ j → A 3 i ≠ A 3 j := fun i j hi hj z => tLs.ne hB hi hj (vB_ne (by omega) (by omega) z)
  have hneC : ∀ i j, i < nc → j < nc → i ≠ j → A 4 i ≠ A 4 j := fun i j hi hj z => tLs.ne hCu hi hj (vC_ne (by omega) (by omega) z)
  have hneH : ∀ i j, i < nh → j < nh → i ≠ j → A 5 i ≠ A 5 j := fun i j hi hj z => tLs.ne hHa hi hj (vH_ne (by omega) (by omega) z)
  refine g_aload_n F dX2_renew_0 0 rfl rfl ?_
  refine g_iload_n F dX2_renew_1 1 rfl rfl ?_
  rcases Classical.em (mIn x 0 (nI nb - 1) = 0) with hx | hx
  · refine g_callV (b := 0) (bs := 2) F dX2_renew_2 mi_X2_bar q1472 q1473 q1474 gc_X2 hT0 (cx_X2_bar hT hx) rfl rfl (nle rfl) (nle rfl) (nle rfl) g_pXV (g_pXX (fun q4 h_5 x6 o7 => ?_))
    have x8 := gE.tr hE x6.2
    have f9 := x6.2 _ _ hT0
    have t10 := th.up x6.2 hT
    have t11 := thW.up x6.2 hRw
    have t12 := tDo.up x6.2 hD
    have t13 := tLs.up x6.2 hB
    have t14 := tLs.up x6.2 hCu
    have t15 := tLs.up x6.2 hHa
    have t16 := tLs.up x6.2 hQu
    exact gx_out F (fun x hx => (htb x hx).elim) gc_J21 x6.1 o7 (.inr ⟨_, rfl, xTh_n (if_pos hx) ⟨x6.1, x8⟩⟩)
  · obtain ⟨i, hi, rfl⟩ := xAt_i (by omega) hx
    have hxr : xRope f nb (nI i) = xRope1 f i := by unfold xRope; rw [if_neg hx, nI_clamp (by omega)]
    refine g_callV F dX2_renew_2 mi_X2_bar q1472 q1473 q1474 gc_X2 hT0 (ct_X2_bar hT hi) rfl rfl (nle rfl) (nle rfl) (nle rfl) (g_pur ?_) g_purX
    have b24 : h (A 3 i) = some (.inr (9, [.int (nI i), .int (f (11 + 4 * i)), .int (mLoad f nc (nI i)), .int (mCnt f nc (nI i)), .int (f (12 + 4 * i)), .int (f (13 + 4 * i)), .int (f (14 + 4 * i))])) := hB _ hi
    refine g_astore_n (lv' := [(2, .ref (A 3 i)), (0, .ref (A 7 1)), (1, .int (nI i))]) F dX2_renew_5 rfl (by decide) rfl ?_
    refine g_aload_n F dX2_renew_6 0 rfl rfl ?_
    refine gf_X2_101_X5 (v := .int (f (13 + 4 * i))) F dX2_renew_7 b24 rfl ?_
    refine g_if_le (tgt := 17) F dX2_renew_10 (by decide) (fun c25 => ?_) (fun c25 => ?_)
    · have d1 : f (13 + 4 * i) = 0 := xN_0 (xN_m (iBa i hi).2.2 hY) (by decide) c25
      refine g_iconst (v := 0) F dX2_renew_17 rfl ?_
      refine g_bipush (v := 11) F dX2_renew_18 rfl ?_
      refine g_iload_n F dX2_renew_20 2 rfl rfl ?_
      refine g_callS (b := 0) (bs := 0) F dX2_renew_21 mi_X10_check q1142 q1143 cx_X10_check rfl rfl (nle rfl) (nle rfl) (nle rfl) g_pXV (g_pXX (fun q29 h_30 x31 o32 => ?_))
      have x33 := gE.tr hE x31.2
      have f34 := x31.2 _ _ hT0
      have f35 := x31.2 _ _ b24
      have t36 := th.up x31.2 hT
      have t37 := thW.up x31.2 hRw
      have t38 := tDo.up x31.2 hD
      have t39 := tLs.up x31.2 hB
      have t40 := tLs.up x31.2 hCu
      have t41 := tLs.up x31.2 hHa
      have t42 := tLs.up x31.2 hQu
      exact gx_out F (fun x hx => (htb x hx).elim) gc_X10 x31.1 o32 (.inr ⟨_, rfl, xTh_s (hxr.trans (if_pos d1)) ⟨x31.1, x33⟩⟩)
    · have d1 : ¬ f (13 + 4 * i) = 0 := fun z => c25 (by rw [z]; decide)
      refine g_iconst (v := 1) F dX2_renew_13 rfl ?_
      refine g_goto (tgt := 18) F dX2_renew_14 (by decide) ?_
      refine g_bipush (v := 11) F dX2_renew_18 rfl ?_
      refine g_iload_n F dX2_renew_20 2 rfl rfl ?_
      refine g_callS F dX2_renew_21 mi_X10_check q1142 q1143 (ct_X10_check (by decide)) rfl rfl (nle rfl) (nle rfl) (nle rfl) (g_purv ?_) g_purvX
      refine g_aload_n F dX2_renew_24 1 rfl rfl ?_
      refine gf_X2_40_X2 (v := .int (f 6)) F dX2_renew_25 hT0 rfl ?_
      refine g_iconst (v := 5) F dX2_renew_28 rfl ?_
      refine g_icmp_lt (tgt := 36) F dX2_renew_29 (by decide) (fun c50 => ?_) (fun c50 => ?_)
      · have d2 := c50
        refine g_iconst (v := 0) F dX2_renew_36 rfl ?_
        refine g_bipush (v := 12) F dX2_renew_37 rfl ?_
        refine g_iconst (v := 5) F dX2_renew_39 rfl ?_
        refine g_aload_n F dX2_renew_40 1 rfl rfl ?_
        refine gf_X2_40_X2 (v := .int (f 6)) F dX2_renew_41 hT0 rfl ?_
        refine g_isub F dX2_renew_44 ?_
        refine g_callS (b := 0) (bs := 0) F dX2_renew_45 mi_X10_check q1142 q1143 cx_X10_check rfl rfl (nle rfl) (nle rfl) (nle rfl) g_pXV (g_pXX (fun q54 h_55 x56 o57 => ?_))
        have x58 := gE.tr hE x56.2
        have f59 := x56.2 _ _ hT0
        have f60 := x56.2 _ _ b24
        have t61 := th.up x56.2 hT
        have t62 := thW.up x56.2 hRw
        have t63 := tDo.up x56.2 hD
        have t64 := tLs.up x56.2 hB
        have t65 := tLs.up x56.2 hCu
        have t66 := tLs.up x56.2 hHa
        have t67 := tLs.up x56.2 hQu
        exact gx_out F (fun x hx => (htb x hx).elim) gc_X10 x56.1 o57 (.inr ⟨_, rfl, xTh_s (hxr.trans ((if_neg d1).trans (if_pos d2))) ⟨x56.1, x58⟩⟩)
      · have d2 := c50
        have he : ∀ j, j ≠ 6 ∧ j ≠ 13 + 4 * i → (upd (upd f 6 (f 6 - 5)) (13 + 4 * i) 0) j = f j := fun j hj => (by rw [pk_un hj.2, pk_un hj.1])
        refine g_iconst (v := 1) F dX2_renew_32 rfl ?_
        refine g_goto (tgt := 37) F dX2_renew_33 (by decide) ?_
        refine g_bipush (v := 12) F dX2_renew_37 rfl ?_
        refine g_iconst (v := 5) F dX2_renew_39 rfl ?_
        refine g_aload_n F dX2_renew_40 1 rfl rfl ?_
        refine gf_X2_40_X2 (v := .int (f 6)) F dX2_renew_41 hT0 rfl ?_
        refine g_isub F dX2_renew_44 ?_
        refine g_callS F dX2_renew_45 mi_X10_check q1142 q1143 (ct_X10_check (by decide)) rfl rfl (nle rfl) (nle rfl) (nle rfl) (g_purv ?_) g_purvX
        refine g_aload_n F dX2_renew_48 1 rfl rfl ?_
        refine g_dup F dX2_renew_49 rfl ?_
        refine gf_X2_40_X2 (v := .int (f 6)) F dX2_renew_50 hT0 rfl ?_
        refine g_iconst (v := 5) F dX2_renew_53 rfl ?_
        refine g_isub F dX2_renew_54 ?_
        refine gp_X2_40_X2 (fs' := [.ref (A 0 0), .ref (A 0 1), .ref (A 0 2), .ref (A 0 3), .ref (A 7 0), .int (f 5), .int (60 - mOn f nb), .int ((f 6) - 5), .int (f 0), .int (f 7), .int (f 8), .int (f 10)]) F dX2_renew_55 hT0 hTN.2 (nle rfl) rfl (fun h_75 e76 => ?_)
        have x77 := gE.wr1 hE e76 hTN.1
        have f78 := gu_t e76 b24 (gne b24 hT0 (by decide))
        have t79 := thW.oth e76 hT0 (by decide) hRw
        have t80 := tDo.ot2 e76 hT0 (by decide) hD
        have t81 := tLs.oth e76 hT0 (by decide) hB
        have t82 := tLs.oth e76 hT0 (by decide) hCu
        have t83 := tLs.oth e76 hT0 (by decide) hHa
        have t84 := tLs.oth e76 hT0 (by decide) hQu
        have f85 := gu_a e76
        refine g_aload_n F dX2_renew_58 0 rfl rfl ?_
        refine gf_X2_101_X5 (v := .int (f (13 + 4 * i))) F dX2_renew_59 f78 rfl ?_
        refine g_istore_n (lv' := [(3, .int (f (13 + 4 * i))), (2, .ref (A 3 i)), (0, .ref (A 7 1)), (1, .int (nI i))]) F dX2_renew_62 rfl (by decide) rfl ?_
        refine g_aload_n F dX2_renew_63 1 rfl rfl ?_
        refine g_iconst (v := 0) F dX2_renew_64 rfl ?_
        refine gp_X2_101_X5 (fs' := [.int (nI i), .int (f (11 + 4 * i)), .int (mLoad f nc (nI i)), .int (mCnt f nc (nI i)), .int (f (12 + 4 * i)), .int 0, .int (f (14 + 4 * i))]) F dX2_renew_65 f78 (hBN _ hi).2 (nle rfl) rfl (fun h_86 e87 => ?_)
        have x88 := gE.wr1 x77 e87 (hBN _ hi).1
        have f89 := gu_t e87 f85 (gne f85 f78 (by decide))
        have t90 := thW.oth e87 f78 (by decide) t79
        have t91 := tDo.ot2 e87 f78 (by decide) t80
        have t92 := tLs.put (i := i) (W := [.int (nI i), .int (f (11 + 4 * i)), .int (mLoad f nc (nI i)), .int (mCnt f nc (nI i)), .int (f (12 + 4 * i)), .int 0, .int (f (14 + 4 * i))]) e87 (fun j hj hji => hneB j i hj hi hji) t81
        have t93 := tLs.oth e87 f78 (by decide) t82
        have t94 := tLs.oth e87 f78 (by decide) t83
        have t95 := tLs.oth e87 f78 (by decide) t84
        have f96 := gu_a e87
        refine g_iload_n F dX2_renew_68 0 rfl rfl ?_
        exact g_iret F dX2_renew_69 (.inl ⟨_, rfl, xS_i (hxr.trans ((if_neg d1).trans (if_neg d2))) x88 ⟨A, o, nb, nc, nh, nq, rfl, (mC_c hC (fun j h1 h2 => he j (by omega))), (th.of (f := upd (upd f 6 (f 6 - 5)) (13 + 4 * i) 0) (by rw [show vT (upd (upd f 6 (f 6 - 5)) (13 + 4 * i) 0) nb A = [.ref (A 0 0), .ref (A 0 1), .ref (A 0 2), .ref (A 0 3), .ref (A 7 0), .int (f 5), .int (60 - mOn f nb), .int ((f 6) - 5), .int (f 0), .int (f 7), .int (f 8), .int (f 10)] from by unfold vT; rw [(show mOn (upd (upd f 6 (f 6 - 5)) (13 + 4 * i) 0) nb = mOn f nb from mSum_c (fun k hk => he _ (by omega))), (he 5 (by omega)), (show (upd (upd f 6 (f 6 - 5)) (13 + 4 * i) 0) 6 = f 6 - 5 from by rw [pk_un (by omega), pk_us]), (he 0 (by omega)), (he 7 (by omega)), (he 8 (by omega)), (he 10 (by omega))]]; exact f89) hTN t90 (tDo.c t91 (fun j h1 h2 => he j (by omega))) (tLs.c t92 (fun j hj => by by_cases q : j = i; (subst q; rw [tU_s]; unfold vB; rw [mLoad_c nc12 (fun z h1 h2 => he z (by omega)), mCnt_c nc12 (fun z h1 h2 => he z (by omega)), he (11 + 4 * j) (by omega), he (12 + 4 * j) (by omega), he (14 + 4 * j) (by omega), pk_us]); (rw [tU_n q]; exact vB_c nc12 (fun z hz => he z (by omega))))) hBN (tLs.c t93 (fun j hj => vC_c (fun z h1 h2 => he z (by omega)))) hCN (tLs.c t94 (fun j hj => vH_c (fun z h1 h2 => he z (by omega)))) hHN (tLs.c t95 (fun j hj => vQ_c (fun z h1 h2 => he z (by omega)))) hDj hSg)⟩⟩)
set_option maxHeartbeats 4000000 in
set_option maxRecDepth 100000 in
theorem ct_X2_hang {K : gK} {h0 h : AH} {A : Nat → Nat → Nat} {o : Nat → Nat} {f : Nat → Int32} {nb nc nh nq Y : Nat} (hT : th K (gNw K h0) h A o f nb nc nh nq) (hE : gE h0 h) (hI : xI f nb nc nh nq Y) (hY : Y ≤ 1000000) {x y : Int32} : gCt K yX2_hang w_X2_hang 9 143 1 8 h [.ref (A 7 1), .int x, .int y] (pM K h0 (A 7 1) (fun _ => 23) (xHang f nb nc x y)) := by
  refine g_meth pf_X2_hang (nle rfl) (fun p e s m args below meth c F hnm htb => ?_)
  have F : gFix K p s m args meth c cX2_hang 5 RX2 (some .int) := F
  refine g_eql (lv' := [(0, .ref (A 7 1)), (1, .int x), (2, .int y)]) rfl ?_
  have hTt := hT
  obtain ⟨⟨hT0, hTN⟩, -, -, hD, ⟨hB, hBN⟩, ⟨hCu, hCN⟩, ⟨hHa, hHN⟩, hQu, hDj, hSg⟩ := hTt
  have hRw := th.w hT
  have hI2 := hI
  obtain ⟨iC, iL, iBa, iWe, iDo, iCu, iMe⟩ := hI
  obtain ⟨f1, nb8, f2, nc12, f3, nh6, f4, nq12⟩ := iC
  have hC : mC f nb nc nh nq := ⟨f1, nb8, f2, nc12, f3, nh6, f4, nq12⟩
  have hneB : ∀ i j, i < nb → j < nb → i ≠ j → A 3 i ≠ A 3 j := fun i j hi hj z => tLs.ne hB hi hj (vB_ne (by omega) (by omega) z)
  have hneC : ∀ i j, i < nc → j < nc → i ≠ j → A 4 i ≠ A 4 j := fun i j hi hj z => tLs.ne hCu hi hj (vC_ne (by omega) (by omega) z)
  have hneH : ∀ i j, i < nh → j < nh → i ≠ j → A 5 i ≠ A 5 j := fun i j hi hj z => tLs.ne hHa hi hj (vH_ne (by omega) (by omega) z)
  refine g_aload_n F dX2_hang_0 0 rfl rfl ?_
  refine g_iload_n F dX2_hang_1 1 rfl rfl ?_
  rcases Classical.em (mIn x 0 (nI nc - 1) = 0) with hx | hx
  · refine g_callV (b := 0) (bs := 2) F dX2_hang_2 mi_X2_curtain q1451 q1452 q1453 gc_X2 hT0 (cx_X2_curtain hT hx) rfl rfl (nle rfl) (nle rfl) (nle rfl) g_pXV (g_pXX (fun q4 h_5 x6 o7 => ?_))
    have x8 := gE.tr hE x6.2
    have f9 := x6.2 _ _ hT0
    have t10 := th.up x6.2 hT
    have t11 := thW.up x6.2 hRw
    have t12 := tDo.up x6.2 hD
    have t13 := tLs.up x6.2 hB
    have t14 := tLs.up x6.2 hCu
    have t15 := tLs.up x6.2 hHa
    have t16 := tLs.up x6.2 hQu
    exact gx_out F (fun x hx => (htb x hx).elim) gc_J21 x6.1 o7 (.inr ⟨_, rfl, xTh_n (if_pos hx) ⟨x6.1, x8⟩⟩)
  · obtain ⟨w, hw, rfl⟩ := xAt_i (by omega) hx
    skip
    refine g_callV F dX2_hang_2 mi_X2_curtain q1451 q1452 q1453 gc_X2 hT0 (ct_X2_curtain hT hw) rfl rfl (nle rfl) (nle rfl) (nle rfl) (g_pur ?_) g_purX
    have b24 : h (A 4 w) = some (.inr (10, [.int (nI w), .int (f (43 + 2 * w)), .int (f (44 + 2 * w))])) := hCu _ hw
    refine g_astore_n (lv' := [(3, .ref (A 4 w)), (0, .ref (A 7 1)), (1, .int (nI w)), (2, .int y)]) F dX2_hang_5 rfl (by decide) rfl ?_
    refine g_aload_n F dX2_hang_6 1 rfl rfl ?_
    refine g_iload_n F dX2_hang_7 3 rfl rfl ?_
    rcases Classical.em (mIn y 0 (nI nb - 1) = 0) with hy | hy
    · refine g_callV (b := 0) (bs := 2) F dX2_hang_8 mi_X2_bar q1472 q1473 q1474 gc_X2 hT0 (cx_X2_bar hT hy) rfl rfl (nle rfl) (nle rfl) (nle rfl) g_pXV (g_pXX (fun q28 h_29 x30 o31 => ?_))
      have x32 := gE.tr hE x30.2
      have f33 := x30.2 _ _ hT0
      have f34 := x30.2 _ _ b24
      have t35 := th.up x30.2 hT
      have t36 := thW.up x30.2 hRw
      have t37 := tDo.up x30.2 hD
      have t38 := tLs.up x30.2 hB
      have t39 := tLs.up x30.2 hCu
      have t40 := tLs.up x30.2 hHa
      have t41 := tLs.up x30.2 hQu
      exact gx_out F (fun x hx => (htb x hx).elim) gc_J21 x30.1 o31 (.inr ⟨_, rfl, xTh_n ((if_neg hx).trans (if_pos hy)) ⟨x30.1, x32⟩⟩)
    · obtain ⟨i, hi, rfl⟩ := xAt_i (by omega) hy
      have hxr : xHang f nb nc (nI w) (nI i) = xHang1 f nc w i := by unfold xHang; rw [if_neg hx, if_neg hy, nI_clamp (by omega), nI_clamp (by omega)]
      refine g_callV F dX2_hang_8 mi_X2_bar q1472 q1473 q1474 gc_X2 hT0 (ct_X2_bar hT hi) rfl rfl (nle rfl) (nle rfl) (nle rfl) (g_pur ?_) g_purX
      have b49 : h (A 3 i) = some (.inr (9, [.int (nI i), .int (f (11 + 4 * i)), .int (mLoad f nc (nI i)), .int (mCnt f nc (nI i)), .int (f (12 + 4 * i)), .int (f (13 + 4 * i)), .int (f (14 + 4 * i))])) := hB _ hi
      refine g_astore (lv' := [(4, .ref (A 3 i)), (3, .ref (A 4 w)), (0, .ref (A 7 1)), (1, .int (nI w)), (2, .int (nI i))]) F dX2_hang_11 (by decide) rfl ?_
      refine g_aload_n F dX2_hang_13 1 rfl rfl ?_
      refine gf_X2_149_X6 (v := .int (f (44 + 2 * w))) F dX2_hang_14 b24 rfl ?_
      refine g_iconst (v := (-1)) F dX2_hang_17 rfl ?_
      refine g_icmp_ne (tgt := 25) F dX2_hang_18 (by decide) (fun c50 => ?_) (fun c50 => ?_)
      · have d1 : 0 ≤ f (44 + 2 * w) := by rcases iL.1 w hw with z | ⟨k, hk, z⟩; exact absurd z c50; rw [z]; exact nI_pos' (by omega)
        refine g_iconst (v := 0) F dX2_hang_25 rfl ?_
        refine g_bipush (v := 6) F dX2_hang_26 rfl ?_
        refine g_aload_n F dX2_hang_28 1 rfl rfl ?_
        refine gf_X2_149_X6 (v := .int (f (44 + 2 * w))) F dX2_hang_29 b24 rfl ?_
        refine g_callS (b := 0) (bs := 0) F dX2_hang_32 mi_X10_check q1142 q1143 cx_X10_check rfl rfl (nle rfl) (nle rfl) (nle rfl) g_pXV (g_pXX (fun q54 h_55 x56 o57 => ?_))
        have x58 := gE.tr hE x56.2
        have f59 := x56.2 _ _ hT0
        have f60 := x56.2 _ _ b24
        have f61 := x56.2 _ _ b49
        have t62 := th.up x56.2 hT
        have t63 := thW.up x56.2 hRw
        have t64 := tDo.up x56.2 hD
        have t65 := tLs.up x56.2 hB
        have t66 := tLs.up x56.2 hCu
        have t67 := tLs.up x56.2 hHa
        have t68 := tLs.up x56.2 hQu
        exact gx_out F (fun x hx => (htb x hx).elim) gc_X10 x56.1 o57 (.inr ⟨_, rfl, xTh_s (hxr.trans (if_pos d1)) ⟨x56.1, x58⟩⟩)
      · have d0 : f (44 + 2 * w) = -1 := c50
        have d1 : ¬ 0 ≤ f (44 + 2 * w) := by rw [d0]; decide
        refine g_iconst (v := 1) F dX2_hang_21 rfl ?_
        refine g_goto (tgt := 26) F dX2_hang_22 (by decide) ?_
        refine g_bipush (v := 6) F dX2_hang_26 rfl ?_
        refine g_aload_n F dX2_hang_28 1 rfl rfl ?_
        refine gf_X2_149_X6 (v := .int (f (44 + 2 * w))) F dX2_hang_29 b24 rfl ?_
        refine g_callS F dX2_hang_32 mi_X10_check q1142 q1143 (ct_X10_check (by decide)) rfl rfl (nle rfl) (nle rfl) (nle rfl) (g_purv ?_) g_purvX
        refine g_aload F dX2_hang_35 0 rfl ?_
        rcases Classical.em (f (11 + 4 * i) = 0) with hlow | hlow
        · refine g_callV F dX2_hang_37 mi_X5_checkLow q1476 q1477 q1478 gc_X5 b49 (ct_X5_checkLow b49 hlow) rfl rfl (nle rfl) (nle rfl) (nle rfl) (g_purv ?_) g_purvX
          have he : ∀ j, j ≠ 44 + 2 * w → (upd f (44 + 2 * w) (nI i)) j = f j := fun j hj => pk_un hj
          have d2 : ¬ 0 < f (11 + 4 * i) := by rw [hlow]; decide
          refine g_aload F dX2_hang_40 0 rfl ?_
          refine g_aload_n F dX2_hang_42 1 rfl rfl ?_
          refine g_iconst (v := 1) F dX2_hang_43 rfl ?_
          refine g_callV F dX2_hang_44 mi_X5_carries q1481 q1482 q1483 gc_X5 b49 (ct_X5_carries_p b49 (hBN _ hi).2 b24 (hCN _ hw).2) rfl rfl (nle rfl) (nle rfl) (nle rfl) (g_purv ?_) g_purvX
          refine g_gen (fun h_92 e93 => ?_)
          obtain ⟨h_90, e91⟩ : ∃ z, z = gu h (A 3 i) (.inr (9, [.int (nI i), .int (f (11 + 4 * i)), .int (mLoad f nc (nI i) + 1 * (f (43 + 2 * w))), .int (mCnt f nc (nI i) + 1), .int (f (12 + 4 * i)), .int (f (13 + 4 * i)), .int (f (14 + 4 * i))])) := ⟨_, rfl⟩
          rw [← e91] at e93
          have x94 := gE.wr1 hE e91 (hBN _ hi).1
          have f95 := gu_t e91 hT0 (gne hT0 b49 (by decide))
          have f96 := gu_t e91 b24 (gne b24 b49 (by decide))
          have t97 := thW.oth e91 b49 (by decide) hRw
          have t98 := tDo.ot2 e91 b49 (by decide) hD
          have t99 := tLs.put (i := i) (W := [.int (nI i), .int (f (11 + 4 * i)), .int (mLoad f nc (nI i) + 1 * (f (43 + 2 * w))), .int (mCnt f nc (nI i) + 1), .int (f (12 + 4 * i)), .int (f (13 + 4 * i)), .int (f (14 + 4 * i))]) e91 (fun j hj hji => hneB j i hj hi hji) hB
          have t100 := tLs.oth e91 b49 (by decide) hCu
          have t101 := tLs.oth e91 b49 (by decide) hHa
          have t102 := tLs.oth e91 b49 (by decide) hQu
          have f103 := gu_a e91
          have x104 := gE.wr1 x94 e93 (hCN _ hw).1
          have f105 := gu_t e93 f95 (gne f95 f96 (by decide))
          have f106 := gu_t e93 f103 (gne f103 f96 (by decide))
          have t107 := thW.oth e93 f96 (by decide) t97
          have t108 := tDo.ot2 e93 f96 (by decide) t98
          have t109 := tLs.oth e93 f96 (by decide) t99
          have t110 := tLs.put (i := w) (W := [.int (nI w), .int (f (43 + 2 * w)), .int (nI i)]) e93 (fun j hj hji => hneC j w hj hw hji) t100
          have t111 := tLs.oth e93 f96 (by decide) t101
          have t112 := tLs.oth e93 f96 (by decide) t102
          have f113 := gu_a e93
          refine g_aload F dX2_hang_47 0 rfl ?_
          refine gf_X2_158_X5 (v := .int (mLoad f nc (nI i) + 1 * (f (43 + 2 * w)))) F dX2_hang_49 f106 rfl ?_
          exact g_iret F dX2_hang_52 (.inl ⟨_, rfl, xS_i ((hxr.trans ((if_neg d1).trans (if_neg d2))).trans (by rw [(hang_l hw (by omega) (by omega) d0).1, if_pos rfl])) x104 ⟨A, o, nb, nc, nh, nq, rfl, (mC_c hC (fun j h1 h2 => he j (by omega))), (th.of (f := upd f (44 + 2 * w) (nI i)) (by rw [show vT (upd f (44 + 2 * w) (nI i)) nb A = [.ref (A 0 0), .ref (A 0 1), .ref (A 0 2), .ref (A 0 3), .ref (A 7 0), .int (f 5), .int (60 - mOn f nb), .int (f 6), .int (f 0), .int (f 7), .int (f 8), .int (f 10)] from by unfold vT; rw [(show mOn (upd f (44 + 2 * w) (nI i)) nb = mOn f nb from mSum_c (fun k hk => he _ (by omega))), (he 5 (by omega)), (he 6 (by omega)), (he 0 (by omega)), (he 7 (by omega)), (he 8 (by omega)), (he 10 (by omega))]]; exact f105) hTN t107 (tDo.c t108 (fun j h1 h2 => he j (by omega))) (tLs.c t109 (fun j hj => by by_cases q : j = i; (subst q; rw [tU_s]; unfold vB; rw [(hang_l hw (by omega) (by omega) d0).1, (hang_l hw (by omega) (by omega) d0).2, if_pos rfl, if_pos rfl, he (11 + 4 * j) (by omega), he (12 + 4 * j) (by omega), he (13 + 4 * j) (by omega), he (14 + 4 * j) (by omega)]); (rw [tU_n q]; unfold vB; rw [(hang_l hw (by omega) (by omega) d0).1, (hang_l hw (by omega) (by omega) d0).2, if_neg q, if_neg q, he (11 + 4 * j) (by omega), he (12 + 4 * j) (by omega), he (13 + 4 * j) (by omega), he (14 + 4 * j) (by omega)]))) hBN (tLs.c t110 (fun j hj => by by_cases q : j = w; (subst q; rw [tU_s]; unfold vC; rw [he (43 + 2 * j) (by omega), pk_us]); (rw [tU_n q]; exact vC_c (fun z h1 h2 => he z (by omega))))) hCN (tLs.c t111 (fun j hj => vH_c (fun z h1 h2 => he z (by omega)))) hHN (tLs.c t112 (fun j hj => vQ_c (fun z h1 h2 => he z (by omega)))) hDj hSg)⟩⟩)
        · have hlp : 0 < f (11 + 4 * i) := xN_p (iBa i hi).1 (by decide) hlow
          refine g_callV (b := 0) (bs := 0) F dX2_hang_37 mi_X5_checkLow q1476 q1477 q1478 gc_X5 b49 (cx_X5_checkLow b49 hlow) rfl rfl (nle rfl) (nle rfl) (nle rfl) g_pXV (g_pXX (fun q117 h_118 x119 o120 => ?_))
          have x121 := gE.tr hE x119.2
          have f122 := x119.2 _ _ hT0
          have f123 := x119.2 _ _ b24
          have f124 := x119.2 _ _ b49
          have t125 := th.up x119.2 hT
          have t126 := thW.up x119.2 hRw
          have t127 := tDo.up x119.2 hD
          have t128 := tLs.up x119.2 hB
          have t129 := tLs.up x119.2 hCu
          have t130 := tLs.up x119.2 hHa
          have t131 := tLs.up x119.2 hQu
          exact gx_out F (fun x hx => (htb x hx).elim) gc_X10 x119.1 o120 (.inr ⟨_, rfl, xTh_s (hxr.trans ((if_neg d1).trans (if_pos hlp))) ⟨x119.1, x121⟩⟩)
