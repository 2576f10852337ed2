/-! ===== The theatre: changes, further (written by tools/class16.py) ===== -/
set_option maxHeartbeats 4000000 in
set_option maxRecDepth 100000 in
theorem ct_X2_moveHand {K : gK} {h0 h : AH} {A : Nat → Nat → Nat} {o : Nat → Nat} {f : Nat → Int32} {nb nc nh nq Y : Nat} (hT : th K (gNw K h0) h A o f nb nc nh nq) (hE : gE h0 h) (hI : xI f nb nc nh nq Y) (hY : Y ≤ 1000000) {x y : Int32} : gCt K yX2_moveHand w_X2_moveHand 9 149 2 8 h [.ref (A 7 1), .int x, .int y] (pM K h0 (A 7 1) (fun z => if z = 1 then 23 else 22) (xMove f nh x y)) := by
  refine g_meth pf_X2_moveHand (nle rfl) (fun p e s m args below meth c F hnm htb => ?_)
  have F : gFix K p s m args meth c cX2_moveHand 4 RX2 (some .int) := F
  refine g_eql (lv' := [(0, .ref (A 7 1)), (1, .int x), (2, .int y)]) rfl ?_
  have hTt := hT
  obtain ⟨⟨hT0, hTN⟩, -, -, hD, ⟨hB, hBN⟩, ⟨hCu, hCN⟩, ⟨hHa, hHN⟩, hQu, hDj, hSg⟩ := hTt
  have hRw := th.w hT
  have hI2 := hI
  obtain ⟨iC, iL, iBa, iWe, iDo, iCu, iMe⟩ := hI
  obtain ⟨f1, nb8, f2, nc12, f3, nh6, f4, nq12⟩ := iC
  have hC : mC f nb nc nh nq := ⟨f1, nb8, f2, nc12, f3, nh6, f4, nq12⟩
  have hneB : ∀ i j, i < nb → j < nb → i ≠ j → A 3 i ≠ A 3 j := fun i j hi hj z => tLs.ne hB hi hj (vB_ne (by omega) (by omega) z)
  have hneC : ∀ i j, i < nc → j < nc → i ≠ j → A 4 i ≠ A 4 j := fun i j hi hj z => tLs.ne hCu hi hj (vC_ne (by omega) (by omega) z)
  have hneH : ∀ i j, i < nh → j < nh → i ≠ j → A 5 i ≠ A 5 j := fun i j hi hj z => tLs.ne hHa hi hj (vH_ne (by omega) (by omega) z)
  refine g_aload_n F dX2_moveHand_0 0 rfl rfl ?_
  refine g_iload_n F dX2_moveHand_1 1 rfl rfl ?_
  rcases Classical.em (mIn x 0 (nI nh - 1) = 0) with hx | hx
  · refine g_callV (b := 1) (bs := 2) F dX2_moveHand_2 mi_X2_hand q1587 q1588 q1589 gc_X2 hT0 (cx_X2_hand hT hx) rfl rfl (nle rfl) (nle rfl) (nle rfl) g_pXV (g_pXX (fun q4 h_5 x6 o7 => ?_))
    have x8 := gE.tr hE x6.2
    have f9 := x6.2 _ _ hT0
    have t10 := th.up x6.2 hT
    have t11 := thW.up x6.2 hRw
    have t12 := tDo.up x6.2 hD
    have t13 := tLs.up x6.2 hB
    have t14 := tLs.up x6.2 hCu
    have t15 := tLs.up x6.2 hHa
    have t16 := tLs.up x6.2 hQu
    exact gx_out F (fun x hx => (htb x hx).elim) gc_J21 x6.1 o7 (.inr ⟨_, rfl, xTh_n (if_pos hx) ⟨x6.1, x8⟩⟩)
  · obtain ⟨i, hi, rfl⟩ := xAt_i (by omega) hx
    have hxr : xMove f nh (nI i) y = if mIn y 0 2 = 0 then .inr (2, none) else .inl (mStr (upd f (67 + 2 * i) y) nh y, upd f (67 + 2 * i) y) := by unfold xMove; rw [if_neg hx, nI_clamp (by omega)]
    refine g_callV F dX2_moveHand_2 mi_X2_hand q1587 q1588 q1589 gc_X2 hT0 (ct_X2_hand hT hi) rfl rfl (nle rfl) (nle rfl) (nle rfl) (g_pur ?_) g_purX
    have b24 : h (A 5 i) = some (.inr (11, [.int (nI i), .int (f (68 + 2 * i)), .int (f (67 + 2 * i))])) := hHa _ hi
    refine g_astore_n (lv' := [(3, .ref (A 5 i)), (0, .ref (A 7 1)), (1, .int (nI i)), (2, .int y)]) F dX2_moveHand_5 rfl (by decide) rfl ?_
    refine g_iload_n F dX2_moveHand_6 3 rfl rfl ?_
    rcases Classical.em (mIn y 0 2 = 0) with hy | hy
    · refine g_callSN (b := 1) (bs := 2) F dX2_moveHand_7 mi_X1_checkFloor q1576 q1577 (cx_X1_checkFloor hy) rfl rfl (nle rfl) (nle rfl) (nle rfl) g_pXV (g_pXX (fun q28 h_29 x30 o31 => ?_))
      have x32 := gE.tr hE x30.2
      have f33 := x30.2 _ _ hT0
      have f34 := x30.2 _ _ b24
      have t35 := th.up x30.2 hT
      have t36 := thW.up x30.2 hRw
      have t37 := tDo.up x30.2 hD
      have t38 := tLs.up x30.2 hB
      have t39 := tLs.up x30.2 hCu
      have t40 := tLs.up x30.2 hHa
      have t41 := tLs.up x30.2 hQu
      exact gx_out F (fun x hx => (htb x hx).elim) gc_J19 x30.1 o31 (.inr ⟨_, rfl, xTh_n (hxr.trans (if_pos hy)) ⟨x30.1, x32⟩⟩)
    · refine g_callSN F dX2_moveHand_7 mi_X1_checkFloor q1576 q1577 (ct_X1_checkFloor hy) rfl rfl (nle rfl) (nle rfl) (nle rfl) (g_purv ?_) g_purvX
      have he : ∀ j, j ≠ 67 + 2 * i → (upd f (67 + 2 * i) y) j = f j := fun j hj => pk_un hj
      refine g_aload_n F dX2_moveHand_10 0 rfl rfl ?_
      refine g_iload_n F dX2_moveHand_11 3 rfl rfl ?_
      refine gp_X2_226_X7 (fs' := [.int (nI i), .int (f (68 + 2 * i)), .int y]) F dX2_moveHand_12 b24 (hHN _ hi).2 (nle rfl) rfl (fun h_49 e50 => ?_)
      have x51 := gE.wr1 hE e50 (hHN _ hi).1
      have f52 := gu_t e50 hT0 (gne hT0 b24 (by decide))
      have t53 := thW.oth e50 b24 (by decide) hRw
      have t54 := tDo.ot2 e50 b24 (by decide) hD
      have t55 := tLs.oth e50 b24 (by decide) hB
      have t56 := tLs.oth e50 b24 (by decide) hCu
      have t57 := tLs.put (i := i) (W := [.int (nI i), .int (f (68 + 2 * i)), .int y]) e50 (fun j hj hji => hneH j i hj hi hji) hHa
      have t58 := tLs.oth e50 b24 (by decide) hQu
      have f59 := gu_a e50
      have t60 := (th.of (f := upd f (67 + 2 * i) y) (by rw [show vT (upd f (67 + 2 * i) y) nb A = [.ref (A 0 0), .ref (A 0 1), .ref (A 0 2), .ref (A 0 3), .ref (A 7 0), .int (f 5), .int (60 - mOn f nb), .int (f 6), .int (f 0), .int (f 7), .int (f 8), .int (f 10)] from by unfold vT; rw [(show mOn (upd f (67 + 2 * i) y) nb = mOn f nb from mSum_c (fun k hk => he _ (by omega))), (he 5 (by omega)), (he 6 (by omega)), (he 0 (by omega)), (he 7 (by omega)), (he 8 (by omega)), (he 10 (by omega))]]; exact f52) hTN t53 (tDo.c t54 (fun j h1 h2 => he j (by omega))) (tLs.c t55 (fun j hj => vB_c nc12 (fun z hz => he z (by omega)))) hBN (tLs.c t56 (fun j hj => vC_c (fun z h1 h2 => he z (by omega)))) hCN (tLs.c t57 (fun j hj => by by_cases q : j = i; (subst q; rw [tU_s]; unfold vH; rw [he (68 + 2 * j) (by omega), pk_us]); (rw [tU_n q]; exact vH_c (fun z h1 h2 => he z (by omega))))) hHN (tLs.c t58 (fun j hj => vQ_c (fun z h1 h2 => he z (by omega)))) hDj hSg)
      refine g_aload_n F dX2_moveHand_15 1 rfl rfl ?_
      refine g_iload_n F dX2_moveHand_16 3 rfl rfl ?_
      refine g_callV (b := 0) (bs := 4) F dX2_moveHand_17 mi_X2_strength q1202 q1203 q1204 gc_X2 f52 (ct_X2_strength (f := upd f (67 + 2 * i) y) t60) rfl rfl (nle rfl) (nle rfl) (nle rfl) (g_pO (fun v61 h_62 p63 => ?_)) g_pOX
      obtain ⟨rfl, p63⟩ := p63
      have x68 := gE.tr x51 p63
      have f69 := p63 _ _ f52
      have f70 := p63 _ _ f59
      have t71 := thW.up p63 t53
      have t72 := tDo.up p63 t54
      have t73 := tLs.up p63 t55
      have t74 := tLs.up p63 t56
      have t75 := tLs.up p63 t57
      have t76 := tLs.up p63 t58
      have t77 := th.up p63 t60
      refine g_eqs (st' := [.int (mStr (upd f (67 + 2 * i) y) nh y)]) rfl ?_
      exact g_iret F dX2_moveHand_20 (.inl ⟨_, rfl, xS_i (hxr.trans (if_neg hy)) x68 ⟨A, o, nb, nc, nh, nq, rfl, (mC_c hC (fun j h1 h2 => he j (by omega))), t77⟩⟩)
set_option maxHeartbeats 4000000 in
set_option maxRecDepth 100000 in
theorem ct_X2_setDoor {K : gK} {h0 h : AH} {A : Nat → Nat → Nat} {o : Nat → Nat} {f : Nat → Int32} {nb nc nh nq Y : Nat} (hT : th K (gNw K h0) h A o f nb nc nh nq) (hE : gE h0 h) (hI : xI f nb nc nh nq Y) (hY : Y ≤ 1000000) {x y : Int32} (hz : y = 0 ∨ y = 1) : gCt K yX2_setDoor w_X2_setDoor 7 101 1 6 h [.ref (A 7 1), .int x, .int y] (pM K h0 (A 7 1) (fun _ => 23) (xDoor f x y)) := by
  refine g_meth pf_X2_setDoor (nle rfl) (fun p e s m args below meth c F hnm htb => ?_)
  have F : gFix K p s m args meth c cX2_setDoor 3 RX2 (some .int) := F
  refine g_eql (lv' := [(0, .ref (A 7 1)), (1, .int x), (2, .int y)]) rfl ?_
  have hTt := hT
  obtain ⟨⟨hT0, hTN⟩, -, -, hD, ⟨hB, hBN⟩, ⟨hCu, hCN⟩, ⟨hHa, hHN⟩, hQu, hDj, hSg⟩ := hTt
  have hRw := th.w hT
  have hI2 := hI
  obtain ⟨iC, iL, iBa, iWe, iDo, iCu, iMe⟩ := hI
  obtain ⟨f1, nb8, f2, nc12, f3, nh6, f4, nq12⟩ := iC
  have hC : mC f nb nc nh nq := ⟨f1, nb8, f2, nc12, f3, nh6, f4, nq12⟩
  have hneB : ∀ i j, i < nb → j < nb → i ≠ j → A 3 i ≠ A 3 j := fun i j hi hj z => tLs.ne hB hi hj (vB_ne (by omega) (by omega) z)
  have hneC : ∀ i j, i < nc → j < nc → i ≠ j → A 4 i ≠ A 4 j := fun i j hi hj z => tLs.ne hCu hi hj (vC_ne (by omega) (by omega) z)
  have hneH : ∀ i j, i < nh → j < nh → i ≠ j → A 5 i ≠ A 5 j := fun i j hi hj z => tLs.ne hHa hi hj (vH_ne (by omega) (by omega) z)
  refine g_iload_n F dX2_setDoor_0 1 rfl rfl ?_
  refine g_i2l F dX2_setDoor_1 rfl ?_
  refine g_lconst (v := 0) F dX2_setDoor_2 rfl ?_
  refine g_ldc2 F q1519 dX2_setDoor_3 ?_
  refine g_eqs (st' := [.long (Int32.toInt64 3), .long (Int32.toInt64 0), .long x.toInt64]) rfl ?_
  refine g_callSN F dX2_setDoor_6 mi_X1_inRange q1495 q1460 (ct_X1_inRange (x := x) (lo := 0) (hi := 3)) rfl rfl (nle rfl) (nle rfl) (nle rfl) (g_pur ?_) g_purX
  rcases Classical.em (mIn x 0 3 = 0) with hx | hx
  · refine g_eqs (st' := [.int 0]) (by rw [hx]) ?_
    refine g_callSN (b := 0) (bs := 0) F dX2_setDoor_9 mi_X1_checkIndex q1520 q1463 cx_X1_checkIndex rfl rfl (nle rfl) (nle rfl) (nle rfl) g_pXV (g_pXX (fun q11 h_12 x13 o14 => ?_))
    have x15 := gE.tr hE x13.2
    have f16 := x13.2 _ _ hT0
    have t17 := th.up x13.2 hT
    have t18 := thW.up x13.2 hRw
    have t19 := tDo.up x13.2 hD
    have t20 := tLs.up x13.2 hB
    have t21 := tLs.up x13.2 hCu
    have t22 := tLs.up x13.2 hHa
    have t23 := tLs.up x13.2 hQu
    exact gx_out F (fun x hx => (htb x hx).elim) gc_J21 x13.1 o14 (.inr ⟨_, rfl, xTh_n (if_pos hx) ⟨x13.1, x15⟩⟩)
  · refine g_callSN F dX2_setDoor_9 mi_X1_checkIndex q1520 q1463 (ct_X1_checkIndex hx) rfl rfl (nle rfl) (nle rfl) (nle rfl) (g_purv ?_) g_purvX
    obtain ⟨i, hi, rfl⟩ := xN_in (M := 3) (by decide) hx
    obtain ⟨dz, hZ0, hZN, hZo, hZd⟩ := hD
    have he : ∀ j, j ≠ 79 + i → (upd f (79 + i) y) j = f j := fun j hj => pk_un hj
    have hxr : xDoor f (nI i) y = .inl (mDoors (upd f (79 + i) y), upd f (79 + i) y) := by unfold xDoor; rw [if_neg hx, nI_clamp (by omega)]
    refine g_aload_n F dX2_setDoor_12 0 rfl rfl ?_
    refine gf_X2_29_X2 (v := .ref (A 7 0)) F dX2_setDoor_13 hT0 rfl ?_
    refine g_iload_n F dX2_setDoor_16 1 rfl rfl ?_
    refine g_iload_n F dX2_setDoor_17 2 rfl rfl ?_
    refine g_zastN (i := i) (z := y) F hZ0 hZo rfl (show i = i by omega) (by omega) (by decide) dX2_setDoor_18 (by rcases hz with rfl | rfl <;> rfl) (fun h_31 e32 => ?_)
    have x33 := gE.wr1 hE e32 hZN.1
    have f34 := gu_t e32 hT0 (gneA hT0 hZ0)
    have t35 := thW.otA F.inj e32 hZ0 (by decide) hRw
    have t36 := tLs.otA e32 hZ0 hB
    have t37 := tLs.otA e32 hZ0 hCu
    have t38 := tLs.otA e32 hZ0 hHa
    have t39 := tLs.otA e32 hZ0 hQu
    have f40 := gu_a e32
    have t41 := (⟨upd dz i y, f40, hZN, hZo, fun k hk => by by_cases q : k = i; (subst q; rw [pk_us, pk_us]); (rw [pk_un q, pk_un (by omega)]; exact hZd k hk)⟩ : tDo K (gNw K h0) h_31 (A 7 0) (upd f (79 + i) y))
    have t42 := (th.of (f := upd f (79 + i) y) (by rw [show vT (upd f (79 + i) y) nb A = [.ref (A 0 0), .ref (A 0 1), .ref (A 0 2), .ref (A 0 3), .ref (A 7 0), .int (f 5), .int (60 - mOn f nb), .int (f 6), .int (f 0), .int (f 7), .int (f 8), .int (f 10)] from by unfold vT; rw [(show mOn (upd f (79 + i) y) nb = mOn f nb from mSum_c (fun k hk => he _ (by omega))), (he 5 (by omega)), (he 6 (by omega)), (he 0 (by omega)), (he 7 (by omega)), (he 8 (by omega)), (he 10 (by omega))]]; exact f34) hTN t35 t41 (tLs.c t36 (fun j hj => vB_c nc12 (fun z hz => he z (by omega)))) hBN (tLs.c t37 (fun j hj => vC_c (fun z h1 h2 => he z (by omega)))) hCN (tLs.c t38 (fun j hj => vH_c (fun z h1 h2 => he z (by omega)))) hHN (tLs.c t39 (fun j hj => vQ_c (fun z h1 h2 => he z (by omega)))) hDj hSg)
    have hID : iD (upd f (79 + i) y) := (xDoor_I hI2 hz hxr).2.2.2.2.1
    refine g_aload_n F dX2_setDoor_19 0 rfl rfl ?_
    refine g_callV F dX2_setDoor_20 mi_X2_openDoors q1259 q1260 q1261 gc_X2 f34 (ct_X2_openDoors (f := upd f (79 + i) y) t42 hID) rfl rfl (nle rfl) (nle rfl) (nle rfl) (g_pur ?_) g_purX
    exact g_iret F dX2_setDoor_23 (.inl ⟨_, rfl, xS_i (hxr) x33 ⟨A, o, nb, nc, nh, nq, rfl, (mC_c hC (fun j h1 h2 => he j (by omega))), t42⟩⟩)
set_option maxHeartbeats 4000000 in
set_option maxRecDepth 100000 in
theorem ct_X2_lift {K : gK} {N : Nat → Prop} {h : AH} {A : Nat → Nat → Nat} {o : Nat → Nat} {f : Nat → Int32} {nb nc nh nq : Nat} (hT : th K N h A o f nb nc nh nq) {i : Nat} {y : Int32} (hi : i < nb) (iDo : iD f) (hto : gOld K (A 7 1) = none) (hbo : gOld K (A 3 i) = none) : gCt K yX2_lift w_X2_lift 2 47 0 0 h [.ref (A 7 1), .ref (A 3 i), .int y] (pR (.int (mLoud f i y)) (gu (gu h (A 3 i) (.inr (9, [.int (nI i), .int y, .int (mLoad f nc (nI i)), .int (mCnt f nc (nI i)), .int (f (12 + 4 * i)), .int (f (13 + 4 * i)), .int (f (14 + 4 * i) + mAbs (y - f (11 + 4 * i)))]))) (A 7 1) (.inr (2, [.ref (A 0 0), .ref (A 0 1), .ref (A 0 2), .ref (A 0 3), .ref (A 7 0), .int (f 5), .int (60 - mOn f nb), .int (f 6), .int (f 0), .int (f 7), .int (f 8), .int (f 10 + 1)])))) := by
  refine g_meth pf_X2_lift (nle rfl) (fun p e s m args below meth c F hnm htb => ?_)
  have F : gFix K p s m args meth c cX2_lift 4 RX2 (some .int) := F
  refine g_eql (lv' := [(0, .ref (A 7 1)), (1, .ref (A 3 i)), (2, .int y)]) rfl ?_
  have hTt := hT
  obtain ⟨⟨hT0, hTN⟩, -, -, -, ⟨hB, -⟩, -, -, -, -, -⟩ := hTt
  have hb : h (A 3 i) = some (.inr (9, [.int (nI i), .int (f (11 + 4 * i)), .int (mLoad f nc (nI i)), .int (mCnt f nc (nI i)), .int (f (12 + 4 * i)), .int (f (13 + 4 * i)), .int (f (14 + 4 * i))])) := hB i hi
  refine g_aload_n F dX2_lift_0 0 rfl rfl ?_
  refine g_aload_n F dX2_lift_1 1 rfl rfl ?_
  refine g_iload_n F dX2_lift_2 2 rfl rfl ?_
  refine g_callV F dX2_lift_3 mi_X2_noise q1254 q1255 q1256 gc_X2 hT0 (ct_X2_noise hT hi iDo) rfl rfl (nle rfl) (nle rfl) (nle rfl) (g_pur ?_) g_purX
  refine g_istore_n (lv' := [(3, .int (mLoud f i y)), (0, .ref (A 7 1)), (1, .ref (A 3 i)), (2, .int y)]) F dX2_lift_6 rfl (by decide) rfl ?_
  refine g_aload_n F dX2_lift_7 2 rfl rfl ?_
  refine g_dup F dX2_lift_8 rfl ?_
  refine gf_X2_267_X5 (v := .int (f (14 + 4 * i))) F dX2_lift_9 hb rfl ?_
  refine g_iload_n F dX2_lift_12 3 rfl rfl ?_
  refine g_aload_n F dX2_lift_13 2 rfl rfl ?_
  refine gf_X2_181_X5 (v := .int (f (11 + 4 * i))) F dX2_lift_14 hb rfl ?_
  refine g_isub F dX2_lift_17 ?_
  refine g_callS F dX2_lift_18 mi_J16_abs q1258 q1130 ct_J16_abs rfl rfl (nle rfl) (nle rfl) (nle rfl) (g_pur ?_) g_purX
  refine g_iadd F dX2_lift_21 ?_
  refine gp_X2_267_X5 (fs' := [.int (nI i), .int (f (11 + 4 * i)), .int (mLoad f nc (nI i)), .int (mCnt f nc (nI i)), .int (f (12 + 4 * i)), .int (f (13 + 4 * i)), .int ((f (14 + 4 * i)) + (mAbs (y - (f (11 + 4 * i)))))]) F dX2_lift_22 hb hbo (nle rfl) rfl (fun h_15 e16 => ?_)
  have f17 := gu_t e16 hT0 (gne hT0 hb (by decide))
  have f18 := gu_a e16
  refine g_aload_n F dX2_lift_25 2 rfl rfl ?_
  refine g_iload_n F dX2_lift_26 3 rfl rfl ?_
  refine gp_X2_181_X5 (fs' := [.int (nI i), .int y, .int (mLoad f nc (nI i)), .int (mCnt f nc (nI i)), .int (f (12 + 4 * i)), .int (f (13 + 4 * i)), .int ((f (14 + 4 * i)) + (mAbs (y - (f (11 + 4 * i)))))]) F dX2_lift_27 f18 hbo (nle rfl) rfl (fun h_19 e20 => ?_)
  have f21 := gu_t e20 f17 (gne f17 f18 (by decide))
  have f22 := gu_a e20
  refine g_aload_n F dX2_lift_30 1 rfl rfl ?_
  refine g_dup F dX2_lift_31 rfl ?_
  refine gf_X2_63_X2 (v := .int (f 10)) F dX2_lift_32 f21 rfl ?_
  refine g_iconst (v := 1) F dX2_lift_35 rfl ?_
  refine g_iadd F dX2_lift_36 ?_
  refine gp_X2_63_X2 (fs' := [.ref (A 0 0), .ref (A 0 1), .ref (A 0 2), .ref (A 0 3), .ref (A 7 0), .int (f 5), .int (60 - mOn f nb), .int (f 6), .int (f 0), .int (f 7), .int (f 8), .int ((f 10) + 1)]) F dX2_lift_37 f21 hto (nle rfl) rfl (fun h_23 e24 => ?_)
  have f25 := gu_t e24 f22 (gne f22 f21 (by decide))
  have f26 := gu_a e24
  refine g_iload_n F dX2_lift_40 0 rfl rfl ?_
  exact g_iret F dX2_lift_41 (⟨rfl, by rw [e24, e20, e16, gu_gu]⟩)
set_option maxHeartbeats 4000000 in
set_option maxRecDepth 100000 in
theorem ct_X2_fly {K : gK} {h0 h : AH} {A : Nat → Nat → Nat} {o : Nat → Nat} {f : Nat → Int32} {nb nc nh nq Y : Nat} (hT : th K (gNw K h0) h A o f nb nc nh nq) (hE : gE h0 h) (hI : xI f nb nc nh nq Y) (hY : Y ≤ 1000000) {x y : Int32} : gCt K yX2_fly w_X2_fly 9 171 3 12 h [.ref (A 7 1), .int x, .int y] (pM K h0 (A 7 1) (fun z => if z = 1 then 23 else 22) (xFly f nb nc nh x y)) := by
  refine g_meth pf_X2_fly (nle rfl) (fun p e s m args below meth c F hnm htb => ?_)
  have F : gFix K p s m args meth c cX2_fly 4 RX2 (some .int) := F
  refine g_eql (lv' := [(0, .ref (A 7 1)), (1, .int x), (2, .int y)]) rfl ?_
  have hTt := hT
  obtain ⟨⟨hT0, hTN⟩, -, -, hD, ⟨hB, hBN⟩, ⟨hCu, hCN⟩, ⟨hHa, hHN⟩, hQu, hDj, hSg⟩ := hTt
  have hRw := th.w hT
  have hI2 := hI
  obtain ⟨iC, iL, iBa, iWe, iDo, iCu, iMe⟩ := hI
  obtain ⟨f1, nb8, f2, nc12, f3, nh6, f4, nq12⟩ := iC
  have hC : mC f nb nc nh nq := ⟨f1, nb8, f2, nc12, f3, nh6, f4, nq12⟩
  have hneB : ∀ i j, i < nb → j < nb → i ≠ j → A 3 i ≠ A 3 j := fun i j hi hj z => tLs.ne hB hi hj (vB_ne (by omega) (by omega) z)
  have hneC : ∀ i j, i < nc → j < nc → i ≠ j → A 4 i ≠ A 4 j := fun i j hi hj z => tLs.ne hCu hi hj (vC_ne (by omega) (by omega) z)
  have hneH : ∀ i j, i < nh → j < nh → i ≠ j → A 5 i ≠ A 5 j := fun i j hi hj z => tLs.ne hHa hi hj (vH_ne (by omega) (by omega) z)
  refine g_aload_n F dX2_fly_0 0 rfl rfl ?_
  refine g_iload_n F dX2_fly_1 1 rfl rfl ?_
  rcases Classical.em (mIn x 0 (nI nb - 1) = 0) with hx | hx
  · refine g_callV (b := 2) (bs := 6) F dX2_fly_2 mi_X2_bar q1472 q1473 q1474 gc_X2 hT0 (cx_X2_bar hT hx) rfl rfl (nle rfl) (nle rfl) (nle rfl) g_pXV (g_pXX (fun q4 h_5 x6 o7 => ?_))
    have x8 := gE.tr hE x6.2
    have f9 := x6.2 _ _ hT0
    have t10 := th.up x6.2 hT
    have t11 := thW.up x6.2 hRw
    have t12 := tDo.up x6.2 hD
    have t13 := tLs.up x6.2 hB
    have t14 := tLs.up x6.2 hCu
    have t15 := tLs.up x6.2 hHa
    have t16 := tLs.up x6.2 hQu
    exact gx_out F (fun x hx => (htb x hx).elim) gc_J21 x6.1 o7 (.inr ⟨_, rfl, xTh_n (if_pos hx) ⟨x6.1, x8⟩⟩)
  · obtain ⟨i, hi, rfl⟩ := xAt_i (by omega) hx
    have hxr : xFly f nb nc nh (nI i) y = xFly1 f nc nh i y := by unfold xFly; rw [if_neg hx, nI_clamp (by omega)]
    refine g_callV F dX2_fly_2 mi_X2_bar q1472 q1473 q1474 gc_X2 hT0 (ct_X2_bar hT hi) rfl rfl (nle rfl) (nle rfl) (nle rfl) (g_pur ?_) g_purX
    have b24 : h (A 3 i) = some (.inr (9, [.int (nI i), .int (f (11 + 4 * i)), .int (mLoad f nc (nI i)), .int (mCnt f nc (nI i)), .int (f (12 + 4 * i)), .int (f (13 + 4 * i)), .int (f (14 + 4 * i))])) := hB _ hi
    refine g_astore_n (lv' := [(3, .ref (A 3 i)), (0, .ref (A 7 1)), (1, .int (nI i)), (2, .int y)]) F dX2_fly_5 rfl (by decide) rfl ?_
    refine g_iload_n F dX2_fly_6 3 rfl rfl ?_
    rcases Classical.em (mIn y 0 20 = 0) with hy | hy
    · refine g_callSN (b := 2) (bs := 6) F dX2_fly_7 mi_X1_checkHeight q1508 q1509 (cx_X1_checkHeight hy) rfl rfl (nle rfl) (nle rfl) (nle rfl) g_pXV (g_pXX (fun q28 h_29 x30 o31 => ?_))
      have x32 := gE.tr hE x30.2
      have f33 := x30.2 _ _ hT0
      have f34 := x30.2 _ _ b24
      have t35 := th.up x30.2 hT
      have t36 := thW.up x30.2 hRw
      have t37 := tDo.up x30.2 hD
      have t38 := tLs.up x30.2 hB
      have t39 := tLs.up x30.2 hCu
      have t40 := tLs.up x30.2 hHa
      have t41 := tLs.up x30.2 hQu
      exact gx_out F (fun x hx => (htb x hx).elim) gc_J19 x30.1 o31 (.inr ⟨_, rfl, xTh_n (hxr.trans (if_pos hy)) ⟨x30.1, x32⟩⟩)
    · refine g_callSN F dX2_fly_7 mi_X1_checkHeight q1508 q1509 (ct_X1_checkHeight hy) rfl rfl (nle rfl) (nle rfl) (nle rfl) (g_purv ?_) g_purvX
      refine g_aload_n F dX2_fly_10 1 rfl rfl ?_
      refine g_aload_n F dX2_fly_11 0 rfl rfl ?_
      refine g_callV (b := 0) (bs := 0) F dX2_fly_12 mi_X2_checkFlight q1180 q1182 qs7 gc_X2 hT0 (ct_X2_checkFlight hT hI2 hY hi) rfl rfl (nle rfl) (nle rfl) (nle rfl) (g_pT (fun v49 h_50 p51 => ?_)) (g_pTX (fun q52 h_53 x54 o55 => ?_))
      · obtain ⟨rfl, hw, p51⟩ := p51
        have x56 := gE.tr hE p51
        have f57 := p51 _ _ hT0
        have f58 := p51 _ _ b24
        have t59 := th.up p51 hT
        have t60 := thW.up p51 hRw
        have t61 := tDo.up p51 hD
        have t62 := tLs.up p51 hB
        have t63 := tLs.up p51 hCu
        have t64 := tLs.up p51 hHa
        have t65 := tLs.up p51 hQu
        refine g_aload_n F dX2_fly_15 1 rfl rfl ?_
        refine g_aload_n F dX2_fly_16 0 rfl rfl ?_
        refine g_iload_n F dX2_fly_17 3 rfl rfl ?_
        have he : ∀ j, (j ≠ 11 + 4 * i ∧ j ≠ 14 + 4 * i ∧ j ≠ 9 ∧ j ≠ 10) → (xLift f i y) j = f j := fun j hj => xLift_n hj.1 hj.2.1 hj.2.2.1 hj.2.2.2
        have hl1 : (xLift f i y) (11 + 4 * i) = y := by unfold xLift; rw [pk_un (by omega), pk_un (by omega), pk_un (by omega), pk_us]
        have hl2 : (xLift f i y) (14 + 4 * i) = f (14 + 4 * i) + mAbs (y - f (11 + 4 * i)) := by unfold xLift; rw [pk_un (by omega), pk_un (by omega), pk_us]
        refine g_callV F dX2_fly_18 mi_X2_lift q1263 q1265 qs8 gc_X2 f57 (ct_X2_lift t59 hi iDo hTN.2 (hBN _ hi).2) rfl rfl (nle rfl) (nle rfl) (nle rfl) (g_pur ?_) g_purX
        refine g_gen (fun h_75 e76 => ?_)
        obtain ⟨h_73, e74⟩ : ∃ z, z = gu h_50 (A 3 i) (.inr (9, [.int (nI i), .int y, .int (mLoad f nc (nI i)), .int (mCnt f nc (nI i)), .int (f (12 + 4 * i)), .int (f (13 + 4 * i)), .int (f (14 + 4 * i) + mAbs (y - f (11 + 4 * i)))])) := ⟨_, rfl⟩
        rw [← e74] at e76
        have x77 := gE.wr1 x56 e74 (hBN _ hi).1
        have f78 := gu_t e74 f57 (gne f57 f58 (by decide))
        have t79 := thW.oth e74 f58 (by decide) t60
        have t80 := tDo.ot2 e74 f58 (by decide) t61
        have t81 := tLs.put (i := i) (W := [.int (nI i), .int y, .int (mLoad f nc (nI i)), .int (mCnt f nc (nI i)), .int (f (12 + 4 * i)), .int (f (13 + 4 * i)), .int (f (14 + 4 * i) + mAbs (y - f (11 + 4 * i)))]) e74 (fun j hj hji => hneB j i hj hi hji) t62
        have t82 := tLs.oth e74 f58 (by decide) t63
        have t83 := tLs.oth e74 f58 (by decide) t64
        have t84 := tLs.oth e74 f58 (by decide) t65
        have f85 := gu_a e74
        have x86 := gE.wr1 x77 e76 hTN.1
        have f87 := gu_t e76 f85 (gne f85 f78 (by decide))
        have t88 := thW.oth e76 f78 (by decide) t79
        have t89 := tDo.ot2 e76 f78 (by decide) t80
        have t90 := tLs.oth e76 f78 (by decide) t81
        have t91 := tLs.oth e76 f78 (by decide) t82
        have t92 := tLs.oth e76 f78 (by decide) t83
        have t93 := tLs.oth e76 f78 (by decide) t84
        have f94 := gu_a e76
        exact g_iret F dX2_fly_21 (.inl ⟨_, rfl, xS_i (hxr.trans ((if_neg hy).trans (if_pos hw))) x86 ⟨A, o, nb, nc, nh, nq, rfl, (mC_c hC (fun j h1 h2 => he j (by omega))), (th.of (f := xLift f i y) (by rw [show vT (xLift f i y) nb A = [.ref (A 0 0), .ref (A 0 1), .ref (A 0 2), .ref (A 0 3), .ref (A 7 0), .int (f 5), .int (60 - mOn f nb), .int (f 6), .int (f 0), .int (f 7), .int (f 8), .int (f 10 + 1)] from by unfold vT; rw [(show mOn (xLift f i y) nb = mOn f nb from mSum_c (fun k hk => he _ (by omega))), (he 5 (by omega)), (he 6 (by omega)), (he 0 (by omega)), (he 7 (by omega)), (he 8 (by omega)), (show (xLift f i y) 10 = f 10 + 1 from pk_us)]]; exact f94) hTN t88 (tDo.c t89 (fun j h1 h2 => he j (by omega))) (tLs.c t90 (fun j hj => by by_cases q : j = i; (subst q; rw [tU_s]; unfold vB; rw [mLoad_c nc12 (fun z h1 h2 => he z (by omega)), mCnt_c nc12 (fun z h1 h2 => he z (by omega)), he (12 + 4 * j) (by omega), he (13 + 4 * j) (by omega), hl1, hl2]); (rw [tU_n q]; exact vB_c nc12 (fun z hz => he z (by omega))))) hBN (tLs.c t91 (fun j hj => vC_c (fun z h1 h2 => he z (by omega)))) hCN (tLs.c t92 (fun j hj => vH_c (fun z h1 h2 => he z (by omega)))) hHN (tLs.c t93 (fun j hj => vQ_c (fun z h1 h2 => he z (by omega)))) hDj hSg)⟩⟩)
      · obtain ⟨hw, x54⟩ := x54
        have x95 := gE.tr hE x54.2
        have f96 := x54.2 _ _ hT0
        have f97 := x54.2 _ _ b24
        have t98 := th.up x54.2 hT
        have t99 := thW.up x54.2 hRw
        have t100 := tDo.up x54.2 hD
        have t101 := tLs.up x54.2 hB
        have t102 := tLs.up x54.2 hCu
        have t103 := tLs.up x54.2 hHa
        have t104 := tLs.up x54.2 hQu
        exact gx_out F (fun x hx => (htb x hx).elim) gc_X10 x54.1 o55 (.inr ⟨_, rfl, xTh_s (hxr.trans ((if_neg hy).trans (if_neg hw))) ⟨x54.1, x95⟩⟩)
set_option maxHeartbeats 4000000 in
set_option maxRecDepth 100000 in
theorem ct_X2_go {K : gK} {h0 h : AH} {A : Nat → Nat → Nat} {o : Nat → Nat} {f : Nat → Int32} {nb nc nh nq Y : Nat} (hT : th K (gNw K h0) h A o f nb nc nh nq) (hE : gE h0 h) (hI : xI f nb nc nh nq Y) (hY : Y ≤ 1000000) (hKA : gKA K) : gCt K yX2_go w_X2_go 8 184 24 209 h [.ref (A 7 1)] (pM K h0 (A 7 1) (fun _ => 22) (xGo f nc nh nq)) := by
  refine g_meth pf_X2_go (nle rfl) (fun p e s m args below meth c F hnm htb => ?_)
  have F : gFix K p s m args meth c cX2_go 4 RX2 (some .int) := F
  refine g_eql (lv' := [(0, .ref (A 7 1))]) rfl ?_
  have hTt := hT
  obtain ⟨⟨hT0, hTN⟩, -, -, hD, ⟨hB, hBN⟩, ⟨hCu, hCN⟩, ⟨hHa, hHN⟩, hQu, hDj, hSg⟩ := hTt
  have hRw := th.w hT
  have hI2 := hI
  obtain ⟨iC, iL, iBa, iWe, iDo, iCu, iMe⟩ := hI
  obtain ⟨f1, nb8, f2, nc12, f3, nh6, f4, nq12⟩ := iC
  have hC : mC f nb nc nh nq := ⟨f1, nb8, f2, nc12, f3, nh6, f4, nq12⟩
  have hneB : ∀ i j, i < nb → j < nb → i ≠ j → A 3 i ≠ A 3 j := fun i j hi hj z => tLs.ne hB hi hj (vB_ne (by omega) (by omega) z)
  have hneC : ∀ i j, i < nc → j < nc → i ≠ j → A 4 i ≠ A 4 j := fun i j hi hj z => tLs.ne hCu hi hj (vC_ne (by omega) (by omega) z)
  have hneH : ∀ i j, i < nh → j < nh → i ≠ j → A 5 i ≠ A 5 j := fun i j hi hj z => tLs.ne hHa hi hj (vH_ne (by omega) (by omega) z)
  refine g_aload_n F dX2_go_0 0 rfl rfl ?_
  refine g_callV (b := 6) (bs := 20) F dX2_go_1 mi_X2_nextCue q726 q727 q728 gc_X2 hT0 (ct_X2_nextCue hT hI2 hKA) rfl rfl (nle rfl) (nle rfl) (nle rfl) (g_pO (fun v1 h_2 p3 => ?_)) g_pOX
  obtain ⟨rfl, p3⟩ := p3
  have x8 := gE.tr hE p3
  have f9 := p3 _ _ hT0
  have t10 := th.up p3 hT
  have t11 := thW.up p3 hRw
  have t12 := tDo.up p3 hD
  have t13 := tLs.up p3 hB
  have t14 := tLs.up p3 hCu
  have t15 := tLs.up p3 hHa
  have t16 := tLs.up p3 hQu
  refine g_eqs (st' := [va_rf ((xNext f nq).map (A 6))]) rfl ?_
  rcases hv : xNext f nq with _ | b9
  · refine g_eqs (st' := [.null]) (by first | rfl | (simp [hv, va_rf])) ?_
    have hxr : xGo f nc nh nq = .inr (1, some (10, nI nq)) := by unfold xGo; rw [hv, f4]
    refine g_astore_nN (lv' := [(1, .null), (0, .ref (A 7 1))]) F dX2_go_4 rfl (by decide) rfl ?_
    refine g_aload_nN F dX2_go_5 0 rfl rfl ?_
    refine g_ifnullN (tgt := 13) F dX2_go_6 (by decide) ?_
    refine g_iconst (v := 0) F dX2_go_13 rfl ?_
    refine g_bipush (v := 10) F dX2_go_14 rfl ?_
    have r17 : h_2 (A 0 3) = some (.inr (3, [.ref (A 1 3), .int 12])) := t11.1 3 (by decide)
    obtain ⟨MD18, h19⟩ := t11.2
    have l20 : lsO K (gNw K h0) h_2 (A 1 3) (A 2 3) nq (fun i => A 6 (o i)) (MD18 3) := h19 3 (by decide)
    refine g_aload_n F dX2_go_16 1 rfl rfl ?_
    refine gf_X2_26_X2 (v := .ref (A 0 3)) F dX2_go_17 f9 rfl ?_
    refine g_callV F dX2_go_20 mi_X3_size q1141 q307 q308 gc_X3 r17 (ct_X3_size r17 l20) rfl rfl (nle rfl) (nle rfl) (nle rfl) (g_pur ?_) g_purX
    refine g_callS (b := 5) (bs := 12) F dX2_go_23 mi_X10_check q1142 q1143 cx_X10_check rfl rfl (nle rfl) (nle rfl) (nle rfl) g_pXV (g_pXX (fun q31 h_32 x33 o34 => ?_))
    have x35 := gE.tr x8 x33.2
    have f36 := x33.2 _ _ f9
    have f37 := x33.2 _ _ r17
    have t38 := lsO.up x33.2 l20
    have t39 := th.up x33.2 t10
    have t40 := thW.up x33.2 t11
    have t41 := tDo.up x33.2 t12
    have t42 := tLs.up x33.2 t13
    have t43 := tLs.up x33.2 t14
    have t44 := tLs.up x33.2 t15
    have t45 := tLs.up x33.2 t16
    exact gx_out F (fun x hx => (htb x hx).elim) gc_X10 x33.1 o34 (.inr ⟨_, rfl, xTh_s (hxr) ⟨x33.1, x35⟩⟩)
  · refine g_eqs (st' := [.ref (A 6 b9)]) (by first | rfl | (simp [hv, va_rf])) ?_
    have hb9 : b9 < nq := by have := (xNx_lt _ _ _ hv).2.1; omega
    have b46 : h_2 (A 6 b9) = some (.inr (12, [.int (f (83 + 4 * b9)), .int (f (84 + 4 * b9)), .int (f (85 + 4 * b9)), .int (f (86 + 4 * b9))])) := t16 _ hb9
    obtain ⟨i, hi, d0⟩ := iL.2 b9 hb9
    have hxr : xGo f nc nh nq = xGo1 f nc nh b9 i := by unfold xGo; rw [hv]; show xGo1 f nc nh b9 _ = _; rw [d0, nI_clamp (by omega)]
    refine g_astore_n (lv' := [(1, .ref (A 6 b9)), (0, .ref (A 7 1))]) F dX2_go_4 rfl (by decide) rfl ?_
    refine g_aload_n F dX2_go_5 0 rfl rfl ?_
    refine g_ifnull F dX2_go_6 ?_
    refine g_iconst (v := 1) F dX2_go_9 rfl ?_
    refine g_goto (tgt := 14) F dX2_go_10 (by decide) ?_
    refine g_bipush (v := 10) F dX2_go_14 rfl ?_
    have r47 : h_2 (A 0 3) = some (.inr (3, [.ref (A 1 3), .int 12])) := t11.1 3 (by decide)
    obtain ⟨MD48, h49⟩ := t11.2
    have l50 : lsO K (gNw K h0) h_2 (A 1 3) (A 2 3) nq (fun i => A 6 (o i)) (MD48 3) := h49 3 (by decide)
    refine g_aload_n F dX2_go_16 1 rfl rfl ?_
    refine gf_X2_26_X2 (v := .ref (A 0 3)) F dX2_go_17 f9 rfl ?_
    refine g_callV F dX2_go_20 mi_X3_size q1141 q307 q308 gc_X3 r47 (ct_X3_size r47 l50) rfl rfl (nle rfl) (nle rfl) (nle rfl) (g_pur ?_) g_purX
    refine g_callS F dX2_go_23 mi_X10_check q1142 q1143 (ct_X10_check (by decide)) rfl rfl (nle rfl) (nle rfl) (nle rfl) (g_purv ?_) g_purvX
    have r65 : h_2 (A 0 0) = some (.inr (3, [.ref (A 1 0), .int 8])) := t11.1 0 (by decide)
    obtain ⟨MD66, h67⟩ := t11.2
    have l68 : lsO K (gNw K h0) h_2 (A 1 0) (A 2 0) nb (A 3) (MD66 0) := h67 0 (by decide)
    refine g_aload_n F dX2_go_26 1 rfl rfl ?_
    refine gf_X2_14_X2 (v := .ref (A 0 0)) F dX2_go_27 f9 rfl ?_
    refine g_aload_n F dX2_go_30 0 rfl rfl ?_
    refine gf_X2_281_X17 (v := .int (f (84 + 4 * b9))) F dX2_go_31 b46 rfl ?_
    refine g_callV F dX2_go_34 mi_X3_get q1174 q1175 q1176 gc_X3 r65 (ct_X3_get r65 l68 d0 hi (fun i hi => gNum_b (t13 i hi))) rfl rfl (nle rfl) (nle rfl) (nle rfl) (g_pur ?_) g_purX
    have b76 : h_2 (A 3 i) = some (.inr (9, [.int (nI i), .int (f (11 + 4 * i)), .int (mLoad f nc (nI i)), .int (mCnt f nc (nI i)), .int (f (12 + 4 * i)), .int (f (13 + 4 * i)), .int (f (14 + 4 * i))])) := t13 _ hi
    refine g_castE F q1179 gc_X5 b76 dX2_go_37 ?_
    refine g_astore_n (lv' := [(2, .ref (A 3 i)), (1, .ref (A 6 b9)), (0, .ref (A 7 1))]) F dX2_go_40 rfl (by decide) rfl ?_
    refine g_aload_n F dX2_go_41 2 rfl rfl ?_
    refine g_aload_n F dX2_go_42 0 rfl rfl ?_
    refine g_callV (b := 3) (bs := 8) F dX2_go_43 mi_X2_checkFlight q1180 q1182 qs7 gc_X2 f9 (ct_X2_checkFlight t10 hI2 hY hi) rfl rfl (nle rfl) (nle rfl) (nle rfl) (g_pT (fun v77 h_78 p79 => ?_)) (g_pTX (fun q80 h_81 x82 o83 => ?_))
    · obtain ⟨rfl, hw, p79⟩ := p79
      have x84 := gE.tr x8 p79
      have f85 := p79 _ _ f9
      have f86 := p79 _ _ b46
      have f87 := p79 _ _ r47
      have f88 := p79 _ _ r65
      have f89 := p79 _ _ b76
      have t90 := lsO.up p79 l50
      have t91 := lsO.up p79 l68
      have t92 := th.up p79 t10
      have t93 := thW.up p79 t11
      have t94 := tDo.up p79 t12
      have t95 := tLs.up p79 t13
      have t96 := tLs.up p79 t14
      have t97 := tLs.up p79 t15
      have t98 := tLs.up p79 t16
      refine g_aload_n F dX2_go_46 2 rfl rfl ?_
      refine g_aload_n F dX2_go_47 0 rfl rfl ?_
      refine g_aload_n F dX2_go_48 1 rfl rfl ?_
      refine gf_X2_291_X17 (v := .int (f (85 + 4 * b9))) F dX2_go_49 f86 rfl ?_
      refine g_callV F dX2_go_52 mi_X2_noise q1254 q1255 q1256 gc_X2 f85 (ct_X2_noise t92 hi iDo) rfl rfl (nle rfl) (nle rfl) (nle rfl) (g_pur ?_) g_purX
      refine g_istore_n (lv' := [(3, .int (mLoud f i (f (85 + 4 * b9)))), (2, .ref (A 3 i)), (1, .ref (A 6 b9)), (0, .ref (A 7 1))]) F dX2_go_55 rfl (by decide) rfl ?_
      refine g_iload_n F dX2_go_56 0 rfl rfl ?_
      refine g_aload_n F dX2_go_57 2 rfl rfl ?_
      refine gf_X2_284_X17 (v := .int (f (86 + 4 * b9))) F dX2_go_58 f86 rfl ?_
      refine g_icmp_gt (tgt := 68) F dX2_go_61 (by decide) (fun c106 => ?_) (fun c106 => ?_)
      · have d5 := c106
        refine g_iconst (v := 0) F dX2_go_68 rfl ?_
        refine g_iconst (v := 5) F dX2_go_69 rfl ?_
        refine g_iload_n F dX2_go_70 0 rfl rfl ?_
        refine g_callS (b := 2) (bs := 0) F dX2_go_71 mi_X10_check q1142 q1143 cx_X10_check rfl rfl (nle rfl) (nle rfl) (nle rfl) g_pXV (g_pXX (fun q110 h_111 x112 o113 => ?_))
        have x114 := gE.tr x84 x112.2
        have f115 := x112.2 _ _ f85
        have f116 := x112.2 _ _ f86
        have f117 := x112.2 _ _ f87
        have f118 := x112.2 _ _ f88
        have f119 := x112.2 _ _ f89
        have t120 := lsO.up x112.2 t90
        have t121 := lsO.up x112.2 t91
        have t122 := th.up x112.2 t92
        have t123 := thW.up x112.2 t93
        have t124 := tDo.up x112.2 t94
        have t125 := tLs.up x112.2 t95
        have t126 := tLs.up x112.2 t96
        have t127 := tLs.up x112.2 t97
        have t128 := tLs.up x112.2 t98
        exact gx_out F (fun x hx => (htb x hx).elim) gc_X10 x112.1 o113 (.inr ⟨_, rfl, xTh_s (hxr.trans ((if_pos hw).trans (if_pos d5))) ⟨x112.1, x114⟩⟩)
      · have d5 := c106
        have he0 : ∀ j, (j ≠ 11 + 4 * i ∧ j ≠ 14 + 4 * i ∧ j ≠ 9 ∧ j ≠ 10) → (xLift f i (f (85 + 4 * b9))) j = f j := fun j hj => xLift_n hj.1 hj.2.1 hj.2.2.1 hj.2.2.2
        have he : ∀ j, (j ≠ 11 + 4 * i ∧ j ≠ 14 + 4 * i ∧ j ≠ 9 ∧ j ≠ 10 ∧ j ≠ 7 ∧ j ≠ 8) → (upd (upd (xLift f i (f (85 + 4 * b9))) 7 (f (83 + 4 * b9))) 8 (f 8 + 1)) j = f j := fun j hj => by rw [pk_un hj.2.2.2.2.2, pk_un hj.2.2.2.2.1, he0 j ⟨hj.1, hj.2.1, hj.2.2.1, hj.2.2.2.1⟩]
        have hl1 : (upd (upd (xLift f i (f (85 + 4 * b9))) 7 (f (83 + 4 * b9))) 8 (f 8 + 1)) (11 + 4 * i) = f (85 + 4 * b9) := by rw [pk_un (by omega), pk_un (by omega)]; unfold xLift; rw [pk_un (by omega), pk_un (by omega), pk_un (by omega), pk_us]
        have hl2 : (upd (upd (xLift f i (f (85 + 4 * b9))) 7 (f (83 + 4 * b9))) 8 (f 8 + 1)) (14 + 4 * i) = f (14 + 4 * i) + mAbs (f (85 + 4 * b9) - f (11 + 4 * i)) := by rw [pk_un (by omega), pk_un (by omega)]; unfold xLift; rw [pk_un (by omega), pk_un (by omega), pk_us]
        refine g_iconst (v := 1) F dX2_go_64 rfl ?_
        refine g_goto (tgt := 69) F dX2_go_65 (by decide) ?_
        refine g_iconst (v := 5) F dX2_go_69 rfl ?_
        refine g_iload_n F dX2_go_70 0 rfl rfl ?_
        refine g_callS F dX2_go_71 mi_X10_check q1142 q1143 (ct_X10_check (by decide)) rfl rfl (nle rfl) (nle rfl) (nle rfl) (g_purv ?_) g_purvX
        refine g_aload_n F dX2_go_74 3 rfl rfl ?_
        refine g_aload_n F dX2_go_75 1 rfl rfl ?_
        refine g_aload_n F dX2_go_76 2 rfl rfl ?_
        refine gf_X2_291_X17 (v := .int (f (85 + 4 * b9))) F dX2_go_77 f86 rfl ?_
        refine g_callV F dX2_go_80 mi_X2_lift q1263 q1265 qs8 gc_X2 f85 (ct_X2_lift t92 hi iDo hTN.2 (hBN _ hi).2) rfl rfl (nle rfl) (nle rfl) (nle rfl) (g_pur ?_) g_purX
        refine g_gen (fun h_145 e146 => ?_)
        obtain ⟨h_143, e144⟩ : ∃ z, z = gu h_78 (A 3 i) (.inr (9, [.int (nI i), .int (f (85 + 4 * b9)), .int (mLoad f nc (nI i)), .int (mCnt f nc (nI i)), .int (f (12 + 4 * i)), .int (f (13 + 4 * i)), .int (f (14 + 4 * i) + mAbs (f (85 + 4 * b9) - f (11 + 4 * i)))])) := ⟨_, rfl⟩
        rw [← e144] at e146
        have x147 := gE.wr1 x84 e144 (hBN _ hi).1
        have f148 := gu_t e144 f85 (gne f85 f89 (by decide))
        have f149 := gu_t e144 f86 (gne f86 f89 (by decide))
        have f150 := gu_t e144 f87 (gne f87 f89 (by decide))
        have f151 := gu_t e144 f88 (gne f88 f89 (by decide))
        have t152 := lsO.oth e144 f89 (by decide) t90
        have t153 := lsO.oth e144 f89 (by decide) t91
        have t154 := thW.oth e144 f89 (by decide) t93
        have t155 := tDo.ot2 e144 f89 (by decide) t94
        have t156 := tLs.put (i := i) (W := [.int (nI i), .int (f (85 + 4 * b9)), .int (mLoad f nc (nI i)), .int (mCnt f nc (nI i)), .int (f (12 + 4 * i)), .int (f (13 + 4 * i)), .int (f (14 + 4 * i) + mAbs (f (85 + 4 * b9) - f (11 + 4 * i)))]) e144 (fun j hj hji => hneB j i hj hi hji) t95
        have t157 := tLs.oth e144 f89 (by decide) t96
        have t158 := tLs.oth e144 f89 (by decide) t97
        have t159 := tLs.oth e144 f89 (by decide) t98
        have f160 := gu_a e144
        have x161 := gE.wr1 x147 e146 hTN.1
        have f162 := gu_t e146 f149 (gne f149 f148 (by decide))
        have f163 := gu_t e146 f150 (gne f150 f148 (by decide))
        have f164 := gu_t e146 f151 (gne f151 f148 (by decide))
        have f165 := gu_t e146 f160 (gne f160 f148 (by decide))
        have t166 := lsO.oth e146 f148 (by decide) t152
        have t167 := lsO.oth e146 f148 (by decide) t153
        have t168 := thW.oth e146 f148 (by decide) t154
        have t169 := tDo.ot2 e146 f148 (by decide) t155
        have t170 := tLs.oth e146 f148 (by decide) t156
        have t171 := tLs.oth e146 f148 (by decide) t157
        have t172 := tLs.oth e146 f148 (by decide) t158
        have t173 := tLs.oth e146 f148 (by decide) t159
        have f174 := gu_a e146
        refine g_istore_n (lv' := [(3, .int (mLoud f i (f (85 + 4 * b9)))), (2, .ref (A 3 i)), (1, .ref (A 6 b9)), (0, .ref (A 7 1))]) F dX2_go_83 rfl (by decide) rfl ?_
        refine g_aload_n F dX2_go_84 3 rfl rfl ?_
        refine g_aload_n F dX2_go_85 2 rfl rfl ?_
        refine gf_X2_278_X17 (v := .int (f (83 + 4 * b9))) F dX2_go_86 f162 rfl ?_
        refine gp_X2_43_X2 (fs' := [.ref (A 0 0), .ref (A 0 1), .ref (A 0 2), .ref (A 0 3), .ref (A 7 0), .int (f 5), .int (60 - mOn f nb), .int (f 6), .int (f 0), .int (f (83 + 4 * b9)), .int (f 8), .int (f 10 + 1)]) F dX2_go_89 f174 hTN.2 (nle rfl) rfl (fun h_175 e176 => ?_)
        have x177 := gE.wr1 x161 e176 hTN.1
        have f178 := gu_t e176 f162 (gne f162 f174 (by decide))
        have f179 := gu_t e176 f163 (gne f163 f174 (by decide))
        have f180 := gu_t e176 f164 (gne f164 f174 (by decide))
        have f181 := gu_t e176 f165 (gne f165 f174 (by decide))
        have t182 := lsO.oth e176 f174 (by decide) t166
        have t183 := lsO.oth e176 f174 (by decide) t167
        have t184 := thW.oth e176 f174 (by decide) t168
        have t185 := tDo.ot2 e176 f174 (by decide) t169
        have t186 := tLs.oth e176 f174 (by decide) t170
        have t187 := tLs.oth e176 f174 (by decide) t171
        have t188 := tLs.oth e176 f174 (by decide) t172
        have t189 := tLs.oth e176 f174 (by decide) t173
        have f190 := gu_a e176
        refine g_aload_n F dX2_go_92 3 rfl rfl ?_
        refine g_dup F dX2_go_93 rfl ?_
        refine gf_X2_60_X2 (v := .int (f 8)) F dX2_go_94 f190 rfl ?_
        refine g_iconst (v := 1) F dX2_go_97 rfl ?_
        refine g_iadd F dX2_go_98 ?_
        refine gp_X2_60_X2 (fs' := [.ref (A 0 0), .ref (A 0 1), .ref (A 0 2), .ref (A 0 3), .ref (A 7 0), .int (f 5), .int (60 - mOn f nb), .int (f 6), .int (f 0), .int (f (83 + 4 * b9)), .int ((f 8) + 1), .int (f 10 + 1)]) F dX2_go_99 f190 hTN.2 (nle rfl) rfl (fun h_191 e192 => ?_)
        have x193 := gE.wr1 x177 e192 hTN.1
        have f194 := gu_t e192 f178 (gne f178 f190 (by decide))
        have f195 := gu_t e192 f179 (gne f179 f190 (by decide))
        have f196 := gu_t e192 f180 (gne f180 f190 (by decide))
        have f197 := gu_t e192 f181 (gne f181 f190 (by decide))
        have t198 := lsO.oth e192 f190 (by decide) t182
        have t199 := lsO.oth e192 f190 (by decide) t183
        have t200 := thW.oth e192 f190 (by decide) t184
        have t201 := tDo.ot2 e192 f190 (by decide) t185
        have t202 := tLs.oth e192 f190 (by decide) t186
        have t203 := tLs.oth e192 f190 (by decide) t187
        have t204 := tLs.oth e192 f190 (by decide) t188
        have t205 := tLs.oth e192 f190 (by decide) t189
        have f206 := gu_a e192
        refine g_aload_n F dX2_go_102 2 rfl rfl ?_
        refine gf_X2_278_X17 (v := .int (f (83 + 4 * b9))) F dX2_go_103 f194 rfl ?_
        exact g_iret F dX2_go_106 (.inl ⟨_, rfl, xS_i (hxr.trans ((if_pos hw).trans (if_neg d5))) x193 ⟨A, o, nb, nc, nh, nq, rfl, (mC_c hC (fun j h1 h2 => he j (by omega))), (th.of (f := upd (upd (xLift f i (f (85 + 4 * b9))) 7 (f (83 + 4 * b9))) 8 (f 8 + 1)) (by rw [show vT (upd (upd (xLift f i (f (85 + 4 * b9))) 7 (f (83 + 4 * b9))) 8 (f 8 + 1)) nb A = [.ref (A 0 0), .ref (A 0 1), .ref (A 0 2), .ref (A 0 3), .ref (A 7 0), .int (f 5), .int (60 - mOn f nb), .int (f 6), .int (f 0), .int (f (83 + 4 * b9)), .int ((f 8) + 1), .int (f 10 + 1)] from by unfold vT; rw [(show mOn (upd (upd (xLift f i (f (85 + 4 * b9))) 7 (f (83 + 4 * b9))) 8 (f 8 + 1)) nb = mOn f nb from mSum_c (fun k hk => he _ (by omega))), (he 5 (by omega)), (he 6 (by omega)), (he 0 (by omega)), (show (upd (upd (xLift f i (f (85 + 4 * b9))) 7 (f (83 + 4 * b9))) 8 (f 8 + 1)) 7 = f (83 + 4 * b9) from by rw [pk_un (by decide), pk_us]), (show (upd (upd (xLift f i (f (85 + 4 * b9))) 7 (f (83 + 4 * b9))) 8 (f 8 + 1)) 8 = f 8 + 1 from pk_us), (show (upd (upd (xLift f i (f (85 + 4 * b9))) 7 (f (83 + 4 * b9))) 8 (f 8 + 1)) 10 = f 10 + 1 from by rw [pk_un (by decide), pk_un (by decide)]; exact pk_us)]]; exact f206) hTN t200 (tDo.c t201 (fun j h1 h2 => he j (by omega))) (tLs.c t202 (fun j hj => by by_cases q : j = i; (subst q; rw [tU_s]; unfold vB; rw [mLoad_c nc12 (fun z h1 h2 => he z (by omega)), mCnt_c nc12 (fun z h1 h2 => he z (by omega)), he (12 + 4 * j) (by omega), he (13 + 4 * j) (by omega), hl1, hl2]); (rw [tU_n q]; exact vB_c nc12 (fun z hz => he z (by omega))))) hBN (tLs.c t203 (fun j hj => vC_c (fun z h1 h2 => he z (by omega)))) hCN (tLs.c t204 (fun j hj => vH_c (fun z h1 h2 => he z (by omega)))) hHN (tLs.c t205 (fun j hj => vQ_c (fun z h1 h2 => he z (by omega)))) hDj hSg)⟩⟩)
    · obtain ⟨hw, x82⟩ := x82
      have x207 := gE.tr x8 x82.2
      have f208 := x82.2 _ _ f9
      have f209 := x82.2 _ _ b46
      have f210 := x82.2 _ _ r47
      have f211 := x82.2 _ _ r65
      have f212 := x82.2 _ _ b76
      have t213 := lsO.up x82.2 l50
      have t214 := lsO.up x82.2 l68
      have t215 := th.up x82.2 t10
      have t216 := thW.up x82.2 t11
      have t217 := tDo.up x82.2 t12
      have t218 := tLs.up x82.2 t13
      have t219 := tLs.up x82.2 t14
      have t220 := tLs.up x82.2 t15
      have t221 := tLs.up x82.2 t16
      exact gx_out F (fun x hx => (htb x hx).elim) gc_X10 x82.1 o83 (.inr ⟨_, rfl, xTh_s (hxr.trans (if_neg hw)) ⟨x82.1, x207⟩⟩)
