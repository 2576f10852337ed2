/-! ===== The theatre: changes, on (written by tools/class15.py) ===== -/
set_option maxHeartbeats 4000000 in
set_option maxRecDepth 100000 in
theorem ct_X2_drop {K : gK} {h0 h : AH} {A : Nat → Nat → Nat} {o : Nat → Nat} {f : Nat → Int32} {nb nc nh nq Y : Nat} (hT : th K (gNw K h0) h A o f nb nc nh nq) (hE : gE h0 h) (hI : xI f nb nc nh nq Y) (hY : Y ≤ 1000000) {x : Int32} : gCt K yX2_drop w_X2_drop 9 143 1 8 h [.ref (A 7 1), .int x] (pM K h0 (A 7 1) (fun _ => 23) (xDrop f nc x)) := by
  refine g_meth pf_X2_drop (nle rfl) (fun p e s m args below meth c F hnm htb => ?_)
  have F : gFix K p s m args meth c cX2_drop 4 RX2 (some .int) := F
  refine g_eql (lv' := [(0, .ref (A 7 1)), (1, .int x)]) rfl ?_
  have hTt := hT
  obtain ⟨⟨hT0, hTN⟩, -, -, hD, ⟨hB, hBN⟩, ⟨hCu, hCN⟩, ⟨hHa, hHN⟩, hQu, hDj, hSg⟩ := hTt
  have hRw := th.w hT
  have hI2 := hI
  obtain ⟨iC, iL, iBa, iWe, iDo, iCu, iMe⟩ := hI
  obtain ⟨f1, nb8, f2, nc12, f3, nh6, f4, nq12⟩ := iC
  have hC : mC f nb nc nh nq := ⟨f1, nb8, f2, nc12, f3, nh6, f4, nq12⟩
  have hneB : ∀ i j, i < nb → j < nb → i ≠ j → A 3 i ≠ A 3 j := fun i j hi hj z => tLs.ne hB hi hj (vB_ne (by omega) (by omega) z)
  have hneC : ∀ i j, i < nc → j < nc → i ≠ j → A 4 i ≠ A 4 j := fun i j hi hj z => tLs.ne hCu hi hj (vC_ne (by omega) (by omega) z)
  have hneH : ∀ i j, i < nh → j < nh → i ≠ j → A 5 i ≠ A 5 j := fun i j hi hj z => tLs.ne hHa hi hj (vH_ne (by omega) (by omega) z)
  refine g_aload_n F dX2_drop_0 0 rfl rfl ?_
  refine g_iload_n F dX2_drop_1 1 rfl rfl ?_
  rcases Classical.em (mIn x 0 (nI nc - 1) = 0) with hx | hx
  · refine g_callV (b := 0) (bs := 2) F dX2_drop_2 mi_X2_curtain q1451 q1452 q1453 gc_X2 hT0 (cx_X2_curtain hT hx) rfl rfl (nle rfl) (nle rfl) (nle rfl) g_pXV (g_pXX (fun q4 h_5 x6 o7 => ?_))
    have x8 := gE.tr hE x6.2
    have f9 := x6.2 _ _ hT0
    have t10 := th.up x6.2 hT
    have t11 := thW.up x6.2 hRw
    have t12 := tDo.up x6.2 hD
    have t13 := tLs.up x6.2 hB
    have t14 := tLs.up x6.2 hCu
    have t15 := tLs.up x6.2 hHa
    have t16 := tLs.up x6.2 hQu
    exact gx_out F (fun x hx => (htb x hx).elim) gc_J21 x6.1 o7 (.inr ⟨_, rfl, xTh_n (if_pos hx) ⟨x6.1, x8⟩⟩)
  · obtain ⟨w, hw, rfl⟩ := xAt_i (by omega) hx
    have hxr : xDrop f nc (nI w) = xDrop1 f w := by unfold xDrop; rw [if_neg hx, nI_clamp (by omega)]
    refine g_callV F dX2_drop_2 mi_X2_curtain q1451 q1452 q1453 gc_X2 hT0 (ct_X2_curtain hT hw) rfl rfl (nle rfl) (nle rfl) (nle rfl) (g_pur ?_) g_purX
    have b24 : h (A 4 w) = some (.inr (10, [.int (nI w), .int (f (43 + 2 * w)), .int (f (44 + 2 * w))])) := hCu _ hw
    refine g_astore_n (lv' := [(2, .ref (A 4 w)), (0, .ref (A 7 1)), (1, .int (nI w))]) F dX2_drop_5 rfl (by decide) rfl ?_
    refine g_aload_n F dX2_drop_6 0 rfl rfl ?_
    refine gf_X2_149_X6 (v := .int (f (44 + 2 * w))) F dX2_drop_7 b24 rfl ?_
    refine g_iconst (v := (-1)) F dX2_drop_10 rfl ?_
    refine g_icmp_eq (tgt := 18) F dX2_drop_11 (by decide) (fun c25 => ?_) (fun c25 => ?_)
    · have d1 : f (44 + 2 * w) < 0 := by rw [show f (44 + 2 * w) = -1 from c25]; decide
      refine g_iconst (v := 0) F dX2_drop_18 rfl ?_
      refine g_bipush (v := 7) F dX2_drop_19 rfl ?_
      refine g_iload_n F dX2_drop_21 2 rfl rfl ?_
      refine g_callS (b := 0) (bs := 0) F dX2_drop_22 mi_X10_check q1142 q1143 cx_X10_check rfl rfl (nle rfl) (nle rfl) (nle rfl) g_pXV (g_pXX (fun q29 h_30 x31 o32 => ?_))
      have x33 := gE.tr hE x31.2
      have f34 := x31.2 _ _ hT0
      have f35 := x31.2 _ _ b24
      have t36 := th.up x31.2 hT
      have t37 := thW.up x31.2 hRw
      have t38 := tDo.up x31.2 hD
      have t39 := tLs.up x31.2 hB
      have t40 := tLs.up x31.2 hCu
      have t41 := tLs.up x31.2 hHa
      have t42 := tLs.up x31.2 hQu
      exact gx_out F (fun x hx => (htb x hx).elim) gc_X10 x31.1 o32 (.inr ⟨_, rfl, xTh_s (hxr.trans (if_pos d1)) ⟨x31.1, x33⟩⟩)
    · obtain ⟨i, hi, d0⟩ : ∃ i, i < nb ∧ f (44 + 2 * w) = nI i := by rcases iL.1 w hw with z | z; exact absurd z c25; exact z
      have d1 : ¬ f (44 + 2 * w) < 0 := by rw [d0]; exact nI_pos (by omega)
      have d0n : (f (44 + 2 * w)).toNatClampNeg = i := by rw [d0, nI_clamp (by omega)]
      refine g_iconst (v := 1) F dX2_drop_14 rfl ?_
      refine g_goto (tgt := 19) F dX2_drop_15 (by decide) ?_
      refine g_bipush (v := 7) F dX2_drop_19 rfl ?_
      refine g_iload_n F dX2_drop_21 2 rfl rfl ?_
      refine g_callS F dX2_drop_22 mi_X10_check q1142 q1143 (ct_X10_check (by decide)) rfl rfl (nle rfl) (nle rfl) (nle rfl) (g_purv ?_) g_purvX
      refine g_aload_n F dX2_drop_25 1 rfl rfl ?_
      have r50 : h (A 0 0) = some (.inr (3, [.ref (A 1 0), .int 8])) := hRw.1 0 (by decide)
      obtain ⟨MD51, h52⟩ := hRw.2
      have l53 : lsO K (gNw K h0) h (A 1 0) (A 2 0) nb (A 3) (MD51 0) := h52 0 (by decide)
      refine gf_X2_14_X2 (v := .ref (A 0 0)) F dX2_drop_26 hT0 rfl ?_
      refine g_aload_n F dX2_drop_29 0 rfl rfl ?_
      refine gf_X2_149_X6 (v := .int (f (44 + 2 * w))) F dX2_drop_30 b24 rfl ?_
      refine g_callV F dX2_drop_33 mi_X3_get q1174 q1175 q1176 gc_X3 r50 (ct_X3_get r50 l53 d0 hi (fun i hi => gNum_b (hB i hi))) rfl rfl (nle rfl) (nle rfl) (nle rfl) (g_pur ?_) g_purX
      have b61 : h (A 3 i) = some (.inr (9, [.int (nI i), .int (f (11 + 4 * i)), .int (mLoad f nc (nI i)), .int (mCnt f nc (nI i)), .int (f (12 + 4 * i)), .int (f (13 + 4 * i)), .int (f (14 + 4 * i))])) := hB _ hi
      refine g_castE F q1179 gc_X5 b61 dX2_drop_36 ?_
      refine g_astore_n (lv' := [(3, .ref (A 3 i)), (2, .ref (A 4 w)), (0, .ref (A 7 1)), (1, .int (nI w))]) F dX2_drop_39 rfl (by decide) rfl ?_
      refine g_aload_n F dX2_drop_40 0 rfl rfl ?_
      rcases Classical.em (f (11 + 4 * i) = 0) with hlow | hlow
      · refine g_callV F dX2_drop_41 mi_X5_checkLow q1476 q1477 q1478 gc_X5 b61 (ct_X5_checkLow b61 hlow) rfl rfl (nle rfl) (nle rfl) (nle rfl) (g_purv ?_) g_purvX
        have he : ∀ j, j ≠ 44 + 2 * w → (upd f (44 + 2 * w) (-1)) j = f j := fun j hj => pk_un hj
        have d2 : ¬ 0 < f (11 + 4 * i) := by rw [hlow]; decide
        refine g_aload_n F dX2_drop_44 0 rfl rfl ?_
        refine g_aload_n F dX2_drop_45 1 rfl rfl ?_
        refine g_iconst (v := (-1)) F dX2_drop_46 rfl ?_
        refine g_callV F dX2_drop_47 mi_X5_carries q1481 q1482 q1483 gc_X5 b61 (ct_X5_carries_m b61 (hBN _ hi).2 b24 (hCN _ hw).2) rfl rfl (nle rfl) (nle rfl) (nle rfl) (g_purv ?_) g_purvX
        refine g_gen (fun h_78 e79 => ?_)
        obtain ⟨h_76, e77⟩ : ∃ z, z = gu h (A 3 i) (.inr (9, [.int (nI i), .int (f (11 + 4 * i)), .int (mLoad f nc (nI i) + (-1) * (f (43 + 2 * w))), .int (mCnt f nc (nI i) + (-1)), .int (f (12 + 4 * i)), .int (f (13 + 4 * i)), .int (f (14 + 4 * i))])) := ⟨_, rfl⟩
        rw [← e77] at e79
        have x80 := gE.wr1 hE e77 (hBN _ hi).1
        have f81 := gu_t e77 hT0 (gne hT0 b61 (by decide))
        have f82 := gu_t e77 b24 (gne b24 b61 (by decide))
        have f83 := gu_t e77 r50 (gne r50 b61 (by decide))
        have t84 := lsO.oth e77 b61 (by decide) l53
        have t85 := thW.oth e77 b61 (by decide) hRw
        have t86 := tDo.ot2 e77 b61 (by decide) hD
        have t87 := tLs.put (i := i) (W := [.int (nI i), .int (f (11 + 4 * i)), .int (mLoad f nc (nI i) + (-1) * (f (43 + 2 * w))), .int (mCnt f nc (nI i) + (-1)), .int (f (12 + 4 * i)), .int (f (13 + 4 * i)), .int (f (14 + 4 * i))]) e77 (fun j hj hji => hneB j i hj hi hji) hB
        have t88 := tLs.oth e77 b61 (by decide) hCu
        have t89 := tLs.oth e77 b61 (by decide) hHa
        have t90 := tLs.oth e77 b61 (by decide) hQu
        have f91 := gu_a e77
        have x92 := gE.wr1 x80 e79 (hCN _ hw).1
        have f93 := gu_t e79 f81 (gne f81 f82 (by decide))
        have f94 := gu_t e79 f83 (gne f83 f82 (by decide))
        have f95 := gu_t e79 f91 (gne f91 f82 (by decide))
        have t96 := lsO.oth e79 f82 (by decide) t84
        have t97 := thW.oth e79 f82 (by decide) t85
        have t98 := tDo.ot2 e79 f82 (by decide) t86
        have t99 := tLs.oth e79 f82 (by decide) t87
        have t100 := tLs.put (i := w) (W := [.int (nI w), .int (f (43 + 2 * w)), .int (-1)]) e79 (fun j hj hji => hneC j w hj hw hji) t88
        have t101 := tLs.oth e79 f82 (by decide) t89
        have t102 := tLs.oth e79 f82 (by decide) t90
        have f103 := gu_a e79
        refine g_aload_n F dX2_drop_50 0 rfl rfl ?_
        refine gf_X2_165_X5 (v := .int (nI i)) F dX2_drop_51 f95 rfl ?_
        exact g_iret F dX2_drop_54 (.inl ⟨_, rfl, xS_i ((hxr.trans (if_neg d1)).trans (by rw [d0n, if_neg d2, d0])) x92 ⟨A, o, nb, nc, nh, nq, rfl, (mC_c hC (fun j h1 h2 => he j (by omega))), (th.of (f := upd f (44 + 2 * w) (-1)) (by rw [show vT (upd f (44 + 2 * w) (-1)) nb A = [.ref (A 0 0), .ref (A 0 1), .ref (A 0 2), .ref (A 0 3), .ref (A 7 0), .int (f 5), .int (60 - mOn f nb), .int (f 6), .int (f 0), .int (f 7), .int (f 8), .int (f 10)] from by unfold vT; rw [(show mOn (upd f (44 + 2 * w) (-1)) nb = mOn f nb from mSum_c (fun k hk => he _ (by omega))), (he 5 (by omega)), (he 6 (by omega)), (he 0 (by omega)), (he 7 (by omega)), (he 8 (by omega)), (he 10 (by omega))]]; exact f93) hTN t97 (tDo.c t98 (fun j h1 h2 => he j (by omega))) (tLs.c t99 (fun j hj => by by_cases q : j = i; (subst q; rw [tU_s]; unfold vB; rw [(drop_l hw (by omega) (by omega) d0).1, (drop_l hw (by omega) (by omega) d0).2, if_pos rfl, if_pos rfl, he (11 + 4 * j) (by omega), he (12 + 4 * j) (by omega), he (13 + 4 * j) (by omega), he (14 + 4 * j) (by omega)]); (rw [tU_n q]; unfold vB; rw [(drop_l hw (by omega) (by omega) d0).1, (drop_l hw (by omega) (by omega) d0).2, if_neg q, if_neg q, he (11 + 4 * j) (by omega), he (12 + 4 * j) (by omega), he (13 + 4 * j) (by omega), he (14 + 4 * j) (by omega)]))) hBN (tLs.c t100 (fun j hj => by by_cases q : j = w; (subst q; rw [tU_s]; unfold vC; rw [he (43 + 2 * j) (by omega), pk_us]); (rw [tU_n q]; exact vC_c (fun z h1 h2 => he z (by omega))))) hCN (tLs.c t101 (fun j hj => vH_c (fun z h1 h2 => he z (by omega)))) hHN (tLs.c t102 (fun j hj => vQ_c (fun z h1 h2 => he z (by omega)))) hDj hSg)⟩⟩)
      · have hlp : 0 < f (11 + 4 * i) := xN_p (iBa i hi).1 (by decide) hlow
        refine g_callV (b := 0) (bs := 0) F dX2_drop_41 mi_X5_checkLow q1476 q1477 q1478 gc_X5 b61 (cx_X5_checkLow b61 hlow) rfl rfl (nle rfl) (nle rfl) (nle rfl) g_pXV (g_pXX (fun q107 h_108 x109 o110 => ?_))
        have x111 := gE.tr hE x109.2
        have f112 := x109.2 _ _ hT0
        have f113 := x109.2 _ _ b24
        have f114 := x109.2 _ _ r50
        have f115 := x109.2 _ _ b61
        have t116 := lsO.up x109.2 l53
        have t117 := th.up x109.2 hT
        have t118 := thW.up x109.2 hRw
        have t119 := tDo.up x109.2 hD
        have t120 := tLs.up x109.2 hB
        have t121 := tLs.up x109.2 hCu
        have t122 := tLs.up x109.2 hHa
        have t123 := tLs.up x109.2 hQu
        exact gx_out F (fun x hx => (htb x hx).elim) gc_X10 x109.1 o110 (.inr ⟨_, rfl, xTh_s ((hxr.trans (if_neg d1)).trans (by rw [d0n]; exact if_pos hlp)) ⟨x109.1, x111⟩⟩)
set_option maxHeartbeats 4000000 in
set_option maxRecDepth 100000 in
theorem ct_X2_addWeights {K : gK} {h0 h : AH} {A : Nat → Nat → Nat} {o : Nat → Nat} {f : Nat → Int32} {nb nc nh nq Y : Nat} (hT : th K (gNw K h0) h A o f nb nc nh nq) (hE : gE h0 h) (hI : xI f nb nc nh nq Y) (hY : Y ≤ 1000000) {x y : Int32} : gCt K yX2_addWeights w_X2_addWeights 9 143 1 8 h [.ref (A 7 1), .int x, .int y] (pM K h0 (A 7 1) (fun z => if z = 1 then 23 else 22) (xWts f nb x y)) := by
  refine g_meth pf_X2_addWeights (nle rfl) (fun p e s m args below meth c F hnm htb => ?_)
  have F : gFix K p s m args meth c cX2_addWeights 4 RX2 (some .int) := F
  refine g_eql (lv' := [(0, .ref (A 7 1)), (1, .int x), (2, .int y)]) rfl ?_
  have hTt := hT
  obtain ⟨⟨hT0, hTN⟩, -, -, hD, ⟨hB, hBN⟩, ⟨hCu, hCN⟩, ⟨hHa, hHN⟩, hQu, hDj, hSg⟩ := hTt
  have hRw := th.w hT
  have hI2 := hI
  obtain ⟨iC, iL, iBa, iWe, iDo, iCu, iMe⟩ := hI
  obtain ⟨f1, nb8, f2, nc12, f3, nh6, f4, nq12⟩ := iC
  have hC : mC f nb nc nh nq := ⟨f1, nb8, f2, nc12, f3, nh6, f4, nq12⟩
  have hneB : ∀ i j, i < nb → j < nb → i ≠ j → A 3 i ≠ A 3 j := fun i j hi hj z => tLs.ne hB hi hj (vB_ne (by omega) (by omega) z)
  have hneC : ∀ i j, i < nc → j < nc → i ≠ j → A 4 i ≠ A 4 j := fun i j hi hj z => tLs.ne hCu hi hj (vC_ne (by omega) (by omega) z)
  have hneH : ∀ i j, i < nh → j < nh → i ≠ j → A 5 i ≠ A 5 j := fun i j hi hj z => tLs.ne hHa hi hj (vH_ne (by omega) (by omega) z)
  refine g_aload_n F dX2_addWeights_0 0 rfl rfl ?_
  refine g_iload_n F dX2_addWeights_1 1 rfl rfl ?_
  rcases Classical.em (mIn x 0 (nI nb - 1) = 0) with hx | hx
  · refine g_callV (b := 0) (bs := 2) F dX2_addWeights_2 mi_X2_bar q1472 q1473 q1474 gc_X2 hT0 (cx_X2_bar hT hx) rfl rfl (nle rfl) (nle rfl) (nle rfl) g_pXV (g_pXX (fun q4 h_5 x6 o7 => ?_))
    have x8 := gE.tr hE x6.2
    have f9 := x6.2 _ _ hT0
    have t10 := th.up x6.2 hT
    have t11 := thW.up x6.2 hRw
    have t12 := tDo.up x6.2 hD
    have t13 := tLs.up x6.2 hB
    have t14 := tLs.up x6.2 hCu
    have t15 := tLs.up x6.2 hHa
    have t16 := tLs.up x6.2 hQu
    exact gx_out F (fun x hx => (htb x hx).elim) gc_J21 x6.1 o7 (.inr ⟨_, rfl, xTh_n (if_pos hx) ⟨x6.1, x8⟩⟩)
  · obtain ⟨i, hi, rfl⟩ := xAt_i (by omega) hx
    have hxr : xWts f nb (nI i) y = xWts1 f nb i y := by unfold xWts; rw [if_neg hx, nI_clamp (by omega)]
    refine g_callV F dX2_addWeights_2 mi_X2_bar q1472 q1473 q1474 gc_X2 hT0 (ct_X2_bar hT hi) rfl rfl (nle rfl) (nle rfl) (nle rfl) (g_pur ?_) g_purX
    have b24 : h (A 3 i) = some (.inr (9, [.int (nI i), .int (f (11 + 4 * i)), .int (mLoad f nc (nI i)), .int (mCnt f nc (nI i)), .int (f (12 + 4 * i)), .int (f (13 + 4 * i)), .int (f (14 + 4 * i))])) := hB _ hi
    refine g_astore_n (lv' := [(3, .ref (A 3 i)), (0, .ref (A 7 1)), (1, .int (nI i)), (2, .int y)]) F dX2_addWeights_5 rfl (by decide) rfl ?_
    refine g_iload_n F dX2_addWeights_6 3 rfl rfl ?_
    refine g_if_eq (tgt := 28) F dX2_addWeights_7 (by decide) (fun c25 => ?_) (fun c25 => ?_)
    · have dz : y = 0 ∨ mIn y (-20) 20 = 0 := .inl c25
      refine g_iconst (v := 0) F dX2_addWeights_28 rfl ?_
      refine g_callSN (b := 0) (bs := 2) F dX2_addWeights_29 mi_X1_checkArgument q1496 q1497 cx_X1_checkArgument rfl rfl (nle rfl) (nle rfl) (nle rfl) g_pXV (g_pXX (fun q29 h_30 x31 o32 => ?_))
      have x33 := gE.tr hE x31.2
      have f34 := x31.2 _ _ hT0
      have f35 := x31.2 _ _ b24
      have t36 := th.up x31.2 hT
      have t37 := thW.up x31.2 hRw
      have t38 := tDo.up x31.2 hD
      have t39 := tLs.up x31.2 hB
      have t40 := tLs.up x31.2 hCu
      have t41 := tLs.up x31.2 hHa
      have t42 := tLs.up x31.2 hQu
      exact gx_out F (fun x hx => (htb x hx).elim) gc_J19 x31.1 o32 (.inr ⟨_, rfl, xTh_n (hxr.trans (if_pos dz)) ⟨x31.1, x33⟩⟩)
    · have dy : ¬ y = 0 := c25
      refine g_iload_n F dX2_addWeights_10 3 rfl rfl ?_
      refine g_i2l F dX2_addWeights_11 rfl ?_
      refine g_ldc2 F q1493 dX2_addWeights_12 ?_
      refine g_ldc2 F q1494 dX2_addWeights_15 ?_
      refine g_eqs (st' := [.long (Int32.toInt64 20), .long (Int32.toInt64 (-20)), .long y.toInt64]) rfl ?_
      refine g_callSN F dX2_addWeights_18 mi_X1_inRange q1495 q1460 (ct_X1_inRange (x := y) (lo := (-20)) (hi := 20)) rfl rfl (nle rfl) (nle rfl) (nle rfl) (g_pur ?_) g_purX
      refine g_if_eq (tgt := 28) F dX2_addWeights_21 (by decide) (fun c50 => ?_) (fun c50 => ?_)
      · have dz : y = 0 ∨ mIn y (-20) 20 = 0 := .inr c50
        refine g_iconst (v := 0) F dX2_addWeights_28 rfl ?_
        refine g_callSN (b := 0) (bs := 2) F dX2_addWeights_29 mi_X1_checkArgument q1496 q1497 cx_X1_checkArgument rfl rfl (nle rfl) (nle rfl) (nle rfl) g_pXV (g_pXX (fun q54 h_55 x56 o57 => ?_))
        have x58 := gE.tr hE x56.2
        have f59 := x56.2 _ _ hT0
        have f60 := x56.2 _ _ b24
        have t61 := th.up x56.2 hT
        have t62 := thW.up x56.2 hRw
        have t63 := tDo.up x56.2 hD
        have t64 := tLs.up x56.2 hB
        have t65 := tLs.up x56.2 hCu
        have t66 := tLs.up x56.2 hHa
        have t67 := tLs.up x56.2 hQu
        exact gx_out F (fun x hx => (htb x hx).elim) gc_J19 x56.1 o57 (.inr ⟨_, rfl, xTh_n (hxr.trans (if_pos dz)) ⟨x56.1, x58⟩⟩)
      · have dz : ¬ (y = 0 ∨ mIn y (-20) 20 = 0) := fun z => z.elim dy c50
        refine g_iconst (v := 1) F dX2_addWeights_24 rfl ?_
        refine g_goto (tgt := 29) F dX2_addWeights_25 (by decide) ?_
        refine g_callSN F dX2_addWeights_29 mi_X1_checkArgument q1496 q1497 (ct_X1_checkArgument (by decide)) rfl rfl (nle rfl) (nle rfl) (nle rfl) (g_purv ?_) g_purvX
        refine g_aload_n F dX2_addWeights_32 0 rfl rfl ?_
        rcases Classical.em (f (11 + 4 * i) = 0) with hlow | hlow
        · refine g_callV F dX2_addWeights_33 mi_X5_checkLow q1476 q1477 q1478 gc_X5 b24 (ct_X5_checkLow b24 hlow) rfl rfl (nle rfl) (nle rfl) (nle rfl) (g_purv ?_) g_purvX
          have d2 : ¬ 0 < f (11 + 4 * i) := by rw [hlow]; decide
          refine g_aload_n F dX2_addWeights_36 0 rfl rfl ?_
          refine gf_X2_172_X5 (v := .int (f (12 + 4 * i))) F dX2_addWeights_37 b24 rfl ?_
          refine g_iload_n F dX2_addWeights_40 3 rfl rfl ?_
          refine g_iadd F dX2_addWeights_41 ?_
          refine g_i2l F dX2_addWeights_42 rfl ?_
          refine g_lconst (v := 0) F dX2_addWeights_43 rfl ?_
          refine g_ldc2 F q1494 dX2_addWeights_44 ?_
          refine g_eqs (st' := [.long (Int32.toInt64 20), .long (Int32.toInt64 0), .long (((f (12 + 4 * i)) + y).toInt64)]) rfl ?_
          refine g_callSN F dX2_addWeights_47 mi_X1_inRange q1495 q1460 (ct_X1_inRange (x := (f (12 + 4 * i)) + y) (lo := 0) (hi := 20)) rfl rfl (nle rfl) (nle rfl) (nle rfl) (g_pur ?_) g_purX
          refine g_bipush (v := 9) F dX2_addWeights_50 rfl ?_
          refine g_aload_n F dX2_addWeights_52 0 rfl rfl ?_
          refine gf_X2_172_X5 (v := .int (f (12 + 4 * i))) F dX2_addWeights_53 b24 rfl ?_
          rcases Classical.em (mIn (f (12 + 4 * i) + y) 0 20 = 0) with hw9 | hw9
          · refine g_eqs (st' := [.int (f (12 + 4 * i)), .int 9, .int 0]) (by rw [hw9]) ?_
            refine g_callS (b := 0) (bs := 0) F dX2_addWeights_56 mi_X10_check q1142 q1143 cx_X10_check rfl rfl (nle rfl) (nle rfl) (nle rfl) g_pXV (g_pXX (fun q92 h_93 x94 o95 => ?_))
            have x96 := gE.tr hE x94.2
            have f97 := x94.2 _ _ hT0
            have f98 := x94.2 _ _ b24
            have t99 := th.up x94.2 hT
            have t100 := thW.up x94.2 hRw
            have t101 := tDo.up x94.2 hD
            have t102 := tLs.up x94.2 hB
            have t103 := tLs.up x94.2 hCu
            have t104 := tLs.up x94.2 hHa
            have t105 := tLs.up x94.2 hQu
            exact gx_out F (fun x hx => (htb x hx).elim) gc_X10 x94.1 o95 (.inr ⟨_, rfl, xTh_s (hxr.trans ((if_neg dz).trans ((if_neg d2).trans (if_pos hw9)))) ⟨x94.1, x96⟩⟩)
          · refine g_callS F dX2_addWeights_56 mi_X10_check q1142 q1143 (ct_X10_check hw9) rfl rfl (nle rfl) (nle rfl) (nle rfl) (g_purv ?_) g_purvX
            refine g_aload_n F dX2_addWeights_59 1 rfl rfl ?_
            refine gf_X2_37_X2 (v := .int (60 - mOn f nb)) F dX2_addWeights_60 hT0 rfl ?_
            refine g_iload_n F dX2_addWeights_63 3 rfl rfl ?_
            refine g_icmp_lt (tgt := 71) F dX2_addWeights_64 (by decide) (fun c113 => ?_) (fun c113 => ?_)
            · have d4 := c113
              refine g_iconst (v := 0) F dX2_addWeights_71 rfl ?_
              refine g_iconst (v := 1) F dX2_addWeights_72 rfl ?_
              refine g_aload_n F dX2_addWeights_73 1 rfl rfl ?_
              refine gf_X2_37_X2 (v := .int (60 - mOn f nb)) F dX2_addWeights_74 hT0 rfl ?_
              refine g_callS (b := 0) (bs := 0) F dX2_addWeights_77 mi_X10_check q1142 q1143 cx_X10_check rfl rfl (nle rfl) (nle rfl) (nle rfl) g_pXV (g_pXX (fun q117 h_118 x119 o120 => ?_))
              have x121 := gE.tr hE x119.2
              have f122 := x119.2 _ _ hT0
              have f123 := x119.2 _ _ b24
              have t124 := th.up x119.2 hT
              have t125 := thW.up x119.2 hRw
              have t126 := tDo.up x119.2 hD
              have t127 := tLs.up x119.2 hB
              have t128 := tLs.up x119.2 hCu
              have t129 := tLs.up x119.2 hHa
              have t130 := tLs.up x119.2 hQu
              exact gx_out F (fun x hx => (htb x hx).elim) gc_X10 x119.1 o120 (.inr ⟨_, rfl, xTh_s (hxr.trans ((if_neg dz).trans ((if_neg d2).trans ((if_neg hw9).trans (if_pos d4))))) ⟨x119.1, x121⟩⟩)
            · have d4 := c113
              have he : ∀ j, j ≠ 12 + 4 * i → (upd f (12 + 4 * i) (f (12 + 4 * i) + y)) j = f j := fun j hj => pk_un hj
              refine g_iconst (v := 1) F dX2_addWeights_67 rfl ?_
              refine g_goto (tgt := 72) F dX2_addWeights_68 (by decide) ?_
              refine g_iconst (v := 1) F dX2_addWeights_72 rfl ?_
              refine g_aload_n F dX2_addWeights_73 1 rfl rfl ?_
              refine gf_X2_37_X2 (v := .int (60 - mOn f nb)) F dX2_addWeights_74 hT0 rfl ?_
              refine g_callS F dX2_addWeights_77 mi_X10_check q1142 q1143 (ct_X10_check (by decide)) rfl rfl (nle rfl) (nle rfl) (nle rfl) (g_purv ?_) g_purvX
              refine g_aload_n F dX2_addWeights_80 0 rfl rfl ?_
              refine g_dup F dX2_addWeights_81 rfl ?_
              refine gf_X2_172_X5 (v := .int (f (12 + 4 * i))) F dX2_addWeights_82 b24 rfl ?_
              refine g_iload_n F dX2_addWeights_85 3 rfl rfl ?_
              refine g_iadd F dX2_addWeights_86 ?_
              refine gp_X2_172_X5 (fs' := [.int (nI i), .int (f (11 + 4 * i)), .int (mLoad f nc (nI i)), .int (mCnt f nc (nI i)), .int ((f (12 + 4 * i)) + y), .int (f (13 + 4 * i)), .int (f (14 + 4 * i))]) F dX2_addWeights_87 b24 (hBN _ hi).2 (nle rfl) rfl (fun h_138 e139 => ?_)
              have x140 := gE.wr1 hE e139 (hBN _ hi).1
              have f141 := gu_t e139 hT0 (gne hT0 b24 (by decide))
              have t142 := thW.oth e139 b24 (by decide) hRw
              have t143 := tDo.ot2 e139 b24 (by decide) hD
              have t144 := tLs.put (i := i) (W := [.int (nI i), .int (f (11 + 4 * i)), .int (mLoad f nc (nI i)), .int (mCnt f nc (nI i)), .int ((f (12 + 4 * i)) + y), .int (f (13 + 4 * i)), .int (f (14 + 4 * i))]) e139 (fun j hj hji => hneB j i hj hi hji) hB
              have t145 := tLs.oth e139 b24 (by decide) hCu
              have t146 := tLs.oth e139 b24 (by decide) hHa
              have t147 := tLs.oth e139 b24 (by decide) hQu
              have f148 := gu_a e139
              refine g_aload_n F dX2_addWeights_90 1 rfl rfl ?_
              refine g_dup F dX2_addWeights_91 rfl ?_
              refine gf_X2_37_X2 (v := .int (60 - mOn f nb)) F dX2_addWeights_92 f141 rfl ?_
              refine g_iload_n F dX2_addWeights_95 3 rfl rfl ?_
              refine g_isub F dX2_addWeights_96 ?_
              refine gp_X2_37_X2 (fs' := [.ref (A 0 0), .ref (A 0 1), .ref (A 0 2), .ref (A 0 3), .ref (A 7 0), .int (f 5), .int ((60 - mOn f nb) - y), .int (f 6), .int (f 0), .int (f 7), .int (f 8), .int (f 10)]) F dX2_addWeights_97 f141 hTN.2 (nle rfl) rfl (fun h_149 e150 => ?_)
              have x151 := gE.wr1 x140 e150 hTN.1
              have f152 := gu_t e150 f148 (gne f148 f141 (by decide))
              have t153 := thW.oth e150 f141 (by decide) t142
              have t154 := tDo.ot2 e150 f141 (by decide) t143
              have t155 := tLs.oth e150 f141 (by decide) t144
              have t156 := tLs.oth e150 f141 (by decide) t145
              have t157 := tLs.oth e150 f141 (by decide) t146
              have t158 := tLs.oth e150 f141 (by decide) t147
              have f159 := gu_a e150
              refine g_aload_n F dX2_addWeights_100 0 rfl rfl ?_
              refine gf_X2_172_X5 (v := .int ((f (12 + 4 * i)) + y)) F dX2_addWeights_101 f152 rfl ?_
              exact g_iret F dX2_addWeights_104 (.inl ⟨_, rfl, xS_i (hxr.trans ((if_neg dz).trans ((if_neg d2).trans ((if_neg hw9).trans (if_neg d4))))) x151 ⟨A, o, nb, nc, nh, nq, rfl, (mC_c hC (fun j h1 h2 => he j (by omega))), (th.of (f := upd f (12 + 4 * i) (f (12 + 4 * i) + y)) (by rw [show vT (upd f (12 + 4 * i) (f (12 + 4 * i) + y)) nb A = [.ref (A 0 0), .ref (A 0 1), .ref (A 0 2), .ref (A 0 3), .ref (A 7 0), .int (f 5), .int ((60 - mOn f nb) - y), .int (f 6), .int (f 0), .int (f 7), .int (f 8), .int (f 10)] from by unfold vT; rw [mOn_w hi, st_w, (he 5 (by omega)), (he 6 (by omega)), (he 0 (by omega)), (he 7 (by omega)), (he 8 (by omega)), (he 10 (by omega))]]; exact f159) hTN t153 (tDo.c t154 (fun j h1 h2 => he j (by omega))) (tLs.c t155 (fun j hj => by by_cases q : j = i; (subst q; rw [tU_s]; unfold vB; rw [mLoad_c nc12 (fun z h1 h2 => he z (by omega)), mCnt_c nc12 (fun z h1 h2 => he z (by omega)), he (11 + 4 * j) (by omega), he (13 + 4 * j) (by omega), he (14 + 4 * j) (by omega), pk_us]); (rw [tU_n q]; exact vB_c nc12 (fun z hz => he z (by omega))))) hBN (tLs.c t156 (fun j hj => vC_c (fun z h1 h2 => he z (by omega)))) hCN (tLs.c t157 (fun j hj => vH_c (fun z h1 h2 => he z (by omega)))) hHN (tLs.c t158 (fun j hj => vQ_c (fun z h1 h2 => he z (by omega)))) hDj hSg)⟩⟩)
        · have hlp : 0 < f (11 + 4 * i) := xN_p (iBa i hi).1 (by decide) hlow
          refine g_callV (b := 0) (bs := 0) F dX2_addWeights_33 mi_X5_checkLow q1476 q1477 q1478 gc_X5 b24 (cx_X5_checkLow b24 hlow) rfl rfl (nle rfl) (nle rfl) (nle rfl) g_pXV (g_pXX (fun q163 h_164 x165 o166 => ?_))
          have x167 := gE.tr hE x165.2
          have f168 := x165.2 _ _ hT0
          have f169 := x165.2 _ _ b24
          have t170 := th.up x165.2 hT
          have t171 := thW.up x165.2 hRw
          have t172 := tDo.up x165.2 hD
          have t173 := tLs.up x165.2 hB
          have t174 := tLs.up x165.2 hCu
          have t175 := tLs.up x165.2 hHa
          have t176 := tLs.up x165.2 hQu
          exact gx_out F (fun x hx => (htb x hx).elim) gc_X10 x165.1 o166 (.inr ⟨_, rfl, xTh_s (hxr.trans ((if_neg dz).trans (if_pos hlp))) ⟨x165.1, x167⟩⟩)
