/-! ===== The theatre: things added (written by tools/class18.py) ===== -/
set_option maxHeartbeats 4000000 in
set_option maxRecDepth 100000 in
theorem ct_X2_addCurtain {K : gK} {h0 h : AH} {A : Nat → Nat → Nat} {o : Nat → Nat} {f : Nat → Int32} {nb nc nh nq Y : Nat} (hT : th K (gNw K h0) h A o f nb nc nh nq) (hE : gE h0 h) (hI : xI f nb nc nh nq Y) (hY : Y ≤ 1000000) {x : Int32} (hKA : gKA K) : gCt K yX2_addCurtain w_X2_addCurtain 9 180 2 18 h [.ref (A 7 1), .int x] (pM K h0 (A 7 1) (fun z => if z = 1 then 22 else 24) (xCurtain f nc x)) := by
  refine g_meth pf_X2_addCurtain (nle rfl) (fun p e s m args below meth c F hnm htb => ?_)
  have F : gFix K p s m args meth c cX2_addCurtain 2 RX2 (some .int) := F
  refine g_eql (lv' := [(0, .ref (A 7 1)), (1, .int x)]) rfl ?_
  have hTt := hT
  obtain ⟨⟨hT0, hTN⟩, -, -, hD, ⟨hB, hBN⟩, ⟨hCu, hCN⟩, ⟨hHa, hHN⟩, hQu, hDj, hSg⟩ := hTt
  have hRw := th.w hT
  have hI2 := hI
  obtain ⟨iC, iL, iBa, iWe, iDo, iCu, iMe⟩ := hI
  obtain ⟨f1, nb8, f2, nc12, f3, nh6, f4, nq12⟩ := iC
  have hC : mC f nb nc nh nq := ⟨f1, nb8, f2, nc12, f3, nh6, f4, nq12⟩
  have hneB : ∀ i j, i < nb → j < nb → i ≠ j → A 3 i ≠ A 3 j := fun i j hi hj z => tLs.ne hB hi hj (vB_ne (by omega) (by omega) z)
  have hneC : ∀ i j, i < nc → j < nc → i ≠ j → A 4 i ≠ A 4 j := fun i j hi hj z => tLs.ne hCu hi hj (vC_ne (by omega) (by omega) z)
  have hneH : ∀ i j, i < nh → j < nh → i ≠ j → A 5 i ≠ A 5 j := fun i j hi hj z => tLs.ne hHa hi hj (vH_ne (by omega) (by omega) z)
  refine g_iload_n F dX2_addCurtain_0 1 rfl rfl ?_
  refine g_i2l F dX2_addCurtain_1 rfl ?_
  refine g_ldc2 F q1568 dX2_addCurtain_2 ?_
  refine g_ldc2 F q1569 dX2_addCurtain_5 ?_
  refine g_eqs (st' := [.long (Int32.toInt64 90), .long (Int32.toInt64 5), .long x.toInt64]) rfl ?_
  refine g_callSN F dX2_addCurtain_8 mi_X1_inRange q1495 q1460 (ct_X1_inRange (x := x) (lo := 5) (hi := 90)) rfl rfl (nle rfl) (nle rfl) (nle rfl) (g_pur ?_) g_purX
  rcases Classical.em (mIn x 5 90 = 0) with hx | hx
  · refine g_eqs (st' := [.int 0]) (by rw [hx]) ?_
    refine g_callSN (b := 1) (bs := 12) F dX2_addCurtain_11 mi_X1_checkArgument q1496 q1497 cx_X1_checkArgument rfl rfl (nle rfl) (nle rfl) (nle rfl) g_pXV (g_pXX (fun q11 h_12 x13 o14 => ?_))
    have x15 := gE.tr hE x13.2
    have f16 := x13.2 _ _ hT0
    have t17 := th.up x13.2 hT
    have t18 := thW.up x13.2 hRw
    have t19 := tDo.up x13.2 hD
    have t20 := tLs.up x13.2 hB
    have t21 := tLs.up x13.2 hCu
    have t22 := tLs.up x13.2 hHa
    have t23 := tLs.up x13.2 hQu
    exact gx_out F (fun x hx => (htb x hx).elim) gc_J19 x13.1 o14 (.inr ⟨_, rfl, xTh_n (if_pos hx) ⟨x13.1, x15⟩⟩)
  · refine g_callSN F dX2_addCurtain_11 mi_X1_checkArgument q1496 q1497 (ct_X1_checkArgument hx) rfl rfl (nle rfl) (nle rfl) (nle rfl) (g_purv ?_) g_purvX
    have r31 : h (A 0 1) = some (.inr (3, [.ref (A 1 1), .int 12])) := hRw.1 1 (by decide)
    obtain ⟨MD32, h33⟩ := hRw.2
    have l34 : lsO K (gNw K h0) h (A 1 1) (A 2 1) nc (A 4) (MD32 1) := h33 1 (by decide)
    refine g_aload_n F dX2_addCurtain_14 0 rfl rfl ?_
    refine gf_X2_20_X2 (v := .ref (A 0 1)) F dX2_addCurtain_15 hT0 rfl ?_
    refine g_new (fs := [.int 0, .int 0, .int 0]) (b := 1) (bs := 15) F in_X6 tyX6 tyX6_ok q1471 q592 q89 gc_X6 nf_X6 dX2_addCurtain_18 (fun q35 h_36 hn_e37 ho_e37 e37 => ?_)
    have w38 := gE.no hE hn_e37
    have d39 := gnew hn_e37 hT0
    have d40 := gnew hn_e37 r31
    have d41 := gnew hn_e37 (l34).1
    have x42 := gE.new1 hE e37 hn_e37
    have f43 := gu_t e37 hT0 d39
    have f44 := gu_t e37 r31 d40
    have t45 := lsO.up (gE.new1 gE.rf e37 hn_e37) l34
    have t46 := th.up (gE.new1 gE.rf e37 hn_e37) hT
    have t47 := thW.up (gE.new1 gE.rf e37 hn_e37) hRw
    have t48 := tDo.up (gE.new1 gE.rf e37 hn_e37) hD
    have t49 := tLs.up (gE.new1 gE.rf e37 hn_e37) hB
    have t50 := tLs.up (gE.new1 gE.rf e37 hn_e37) hCu
    have t51 := tLs.up (gE.new1 gE.rf e37 hn_e37) hHa
    have t52 := tLs.up (gE.new1 gE.rf e37 hn_e37) hQu
    have f53 := gu_a e37
    refine g_dup F dX2_addCurtain_21 rfl ?_
    refine g_aload_n F dX2_addCurtain_22 0 rfl rfl ?_
    refine gf_X2_20_X2 (v := .ref (A 0 1)) F dX2_addCurtain_23 f43 rfl ?_
    refine g_callV F dX2_addCurtain_26 mi_X3_size q1141 q307 q308 gc_X3 f44 (ct_X3_size f44 t45) rfl rfl (nle rfl) (nle rfl) (nle rfl) (g_pur ?_) g_purX
    refine g_iload_n F dX2_addCurtain_29 1 rfl rfl ?_
    refine g_callI F dX2_addCurtain_30 mi_X6_init rfl q1570 q594 (ct_X6_init f53 ho_e37) rfl rfl (nle rfl) (nle rfl) (nle rfl) (g_purv ?_) g_purvX
    refine g_gen (fun h_68 e69 => ?_)
    have x70 := gE.wr1 x42 e69 w38
    have e71 := (by rw [e69, e37, gu_gu] : h_68 = gu h q35 _)
    have f72 := gu_t e69 f43 d39
    have f73 := gu_t e69 f44 d40
    have t74 := lsO.up (gE.new1 gE.rf e71 hn_e37) l34
    have t75 := th.up (gE.new1 gE.rf e71 hn_e37) hT
    have t76 := thW.up (gE.new1 gE.rf e71 hn_e37) hRw
    have t77 := tDo.up (gE.new1 gE.rf e71 hn_e37) hD
    have t78 := tLs.up (gE.new1 gE.rf e71 hn_e37) hB
    have t79 := tLs.up (gE.new1 gE.rf e71 hn_e37) hCu
    have t80 := tLs.up (gE.new1 gE.rf e71 hn_e37) hHa
    have t81 := tLs.up (gE.new1 gE.rf e71 hn_e37) hQu
    have f82 := gu_a e69
    rcases Classical.em (nc = 12) with hn | hn
    · refine g_callV (b := 0) (bs := 9) F dX2_addCurtain_33 mi_X3_add q1571 q1535 q1536 gc_X3 f73 (cx_X3_add f73 t74 (by rw [hn]; decide)) rfl rfl (nle rfl) (nle rfl) (nle rfl) g_pXV (g_pXX (fun q86 h_87 x88 o89 => ?_))
      have x90 := gE.tr x70 x88.2
      have f91 := x88.2 _ _ f72
      have f92 := x88.2 _ _ f73
      have f93 := x88.2 _ _ f82
      have t94 := lsO.up x88.2 t74
      have t95 := th.up x88.2 t75
      have t96 := thW.up x88.2 t76
      have t97 := tDo.up x88.2 t77
      have t98 := tLs.up x88.2 t78
      have t99 := tLs.up x88.2 t79
      have t100 := tLs.up x88.2 t80
      have t101 := tLs.up x88.2 t81
      exact gx_out F (fun x hx => (htb x hx).elim) gc_J23 x88.1 o89 (.inr ⟨_, rfl, xTh_n ((if_neg hx).trans (if_pos hn)) ⟨x88.1, x90⟩⟩)
    · refine g_callV (b := 0) (bs := 0) F dX2_addCurtain_33 mi_X3_add q1571 q1535 q1536 gc_X3 f73 (ct_X3_add f73 t74 x70 (by omega) (fun i hi => gOb_c (t79 i hi)) (gOb_c f82) hKA (show nI nc < 12 from nI_lt (b := 12) (by omega) (by decide))) rfl rfl (nle rfl) (nle rfl) (nle rfl) (g_pO (fun v102 h_103 p104 => ?_)) g_pOX
      obtain ⟨rfl, p104⟩ := p104
      have f109 := lsG.ob p104 t74 f82 (by decide)
      have x110 := lsG.E p104
      refine g_eqs (st' := [.int (nI nc)]) rfl ?_
      have he : ∀ j, (j ≠ 2 ∧ j ≠ 43 + 2 * nc ∧ j ≠ 44 + 2 * nc) → (upd (upd (upd f (43 + 2 * nc) x) (44 + 2 * nc) (-1)) 2 (nI (nc + 1))) j = f j := fun j hj => by rw [pk_un hj.1, pk_un hj.2.2, pk_un hj.2.1]
      exact g_iret F dX2_addCurtain_36 (.inl ⟨_, rfl, xS_i ((if_neg hx).trans (if_neg hn)) x110 (by obtain ⟨A', a1, a2⟩ := th_addC (f' := upd (upd (upd f (43 + 2 * nc) x) (44 + 2 * nc) (-1)) 2 (nI (nc + 1))) F.inj hKA t75 p104 (by rw [show vC (upd (upd (upd f (43 + 2 * nc) x) (44 + 2 * nc) (-1)) 2 (nI (nc + 1))) nc = [.int (nI nc), .int x, .int (-1)] from by unfold vC; rw [pk_un (by omega), pk_un (by omega), pk_us, pk_un (by omega), pk_us]]; exact f109) ⟨w38, ho_e37⟩ (by unfold vT; rw [(show mOn (upd (upd (upd f (43 + 2 * nc) x) (44 + 2 * nc) (-1)) 2 (nI (nc + 1))) nb = mOn f nb from mSum_c (fun k hk => he _ (by omega))), he 5 (by omega), he 6 (by omega), he 0 (by omega), he 7 (by omega), he 8 (by omega), he 10 (by omega)]) (fun j h1 h2 => he j (by omega)) (fun i hi => by unfold vB; rw [load_new nb8 (by omega), cnt_new nb8 (by omega), he (11 + 4 * i) (by omega), he (12 + 4 * i) (by omega), he (13 + 4 * i) (by omega), he (14 + 4 * i) (by omega)]) (fun i hi => vC_c (fun z h1 h2 => he z (by omega))) (fun i hi => vH_c (fun z h1 h2 => he z (by omega))) (fun i hi => vQ_c (fun z h1 h2 => he z (by omega))); exact ⟨A', o, nb, nc + 1, nh, nq, a1, (xCurtain_I hI2 ((if_neg hx).trans (if_neg hn))).1, a2⟩)⟩)
set_option maxHeartbeats 4000000 in
set_option maxRecDepth 100000 in
theorem ct_X2_addHand {K : gK} {h0 h : AH} {A : Nat → Nat → Nat} {o : Nat → Nat} {f : Nat → Int32} {nb nc nh nq Y : Nat} (hT : th K (gNw K h0) h A o f nb nc nh nq) (hE : gE h0 h) (hI : xI f nb nc nh nq Y) (hY : Y ≤ 1000000) {x y : Int32} (hKA : gKA K) : gCt K yX2_addHand w_X2_addHand 9 180 2 18 h [.ref (A 7 1), .int x, .int y] (pM K h0 (A 7 1) (fun z => if z = 1 then 22 else 24) (xHand f nh x y)) := by
  refine g_meth pf_X2_addHand (nle rfl) (fun p e s m args below meth c F hnm htb => ?_)
  have F : gFix K p s m args meth c cX2_addHand 3 RX2 (some .int) := F
  refine g_eql (lv' := [(0, .ref (A 7 1)), (1, .int x), (2, .int y)]) rfl ?_
  have hTt := hT
  obtain ⟨⟨hT0, hTN⟩, -, -, hD, ⟨hB, hBN⟩, ⟨hCu, hCN⟩, ⟨hHa, hHN⟩, hQu, hDj, hSg⟩ := hTt
  have hRw := th.w hT
  have hI2 := hI
  obtain ⟨iC, iL, iBa, iWe, iDo, iCu, iMe⟩ := hI
  obtain ⟨f1, nb8, f2, nc12, f3, nh6, f4, nq12⟩ := iC
  have hC : mC f nb nc nh nq := ⟨f1, nb8, f2, nc12, f3, nh6, f4, nq12⟩
  have hneB : ∀ i j, i < nb → j < nb → i ≠ j → A 3 i ≠ A 3 j := fun i j hi hj z => tLs.ne hB hi hj (vB_ne (by omega) (by omega) z)
  have hneC : ∀ i j, i < nc → j < nc → i ≠ j → A 4 i ≠ A 4 j := fun i j hi hj z => tLs.ne hCu hi hj (vC_ne (by omega) (by omega) z)
  have hneH : ∀ i j, i < nh → j < nh → i ≠ j → A 5 i ≠ A 5 j := fun i j hi hj z => tLs.ne hHa hi hj (vH_ne (by omega) (by omega) z)
  refine g_iload_n F dX2_addHand_0 1 rfl rfl ?_
  rcases Classical.em (mIn x 0 2 = 0) with hx | hx
  · refine g_callSN (b := 1) (bs := 12) F dX2_addHand_1 mi_X1_checkFloor q1576 q1577 (cx_X1_checkFloor hx) rfl rfl (nle rfl) (nle rfl) (nle rfl) g_pXV (g_pXX (fun q4 h_5 x6 o7 => ?_))
    have x8 := gE.tr hE x6.2
    have f9 := x6.2 _ _ hT0
    have t10 := th.up x6.2 hT
    have t11 := thW.up x6.2 hRw
    have t12 := tDo.up x6.2 hD
    have t13 := tLs.up x6.2 hB
    have t14 := tLs.up x6.2 hCu
    have t15 := tLs.up x6.2 hHa
    have t16 := tLs.up x6.2 hQu
    exact gx_out F (fun x hx => (htb x hx).elim) gc_J19 x6.1 o7 (.inr ⟨_, rfl, xTh_n (if_pos (.inl hx)) ⟨x6.1, x8⟩⟩)
  · refine g_callSN F dX2_addHand_1 mi_X1_checkFloor q1576 q1577 (ct_X1_checkFloor hx) rfl rfl (nle rfl) (nle rfl) (nle rfl) (g_purv ?_) g_purvX
    refine g_iload_n F dX2_addHand_4 2 rfl rfl ?_
    refine g_i2l F dX2_addHand_5 rfl ?_
    refine g_lconst (v := 1) F dX2_addHand_6 rfl ?_
    refine g_ldc2 F q1580 dX2_addHand_7 ?_
    refine g_eqs (st' := [.long (Int32.toInt64 30), .long (Int32.toInt64 1), .long y.toInt64]) rfl ?_
    refine g_callSN F dX2_addHand_10 mi_X1_inRange q1495 q1460 (ct_X1_inRange (x := y) (lo := 1) (hi := 30)) rfl rfl (nle rfl) (nle rfl) (nle rfl) (g_pur ?_) g_purX
    rcases Classical.em (mIn y 1 30 = 0) with hy | hy
    · refine g_eqs (st' := [.int 0]) (by rw [hy]) ?_
      refine g_callSN (b := 1) (bs := 12) F dX2_addHand_13 mi_X1_checkArgument q1496 q1497 cx_X1_checkArgument rfl rfl (nle rfl) (nle rfl) (nle rfl) g_pXV (g_pXX (fun q34 h_35 x36 o37 => ?_))
      have x38 := gE.tr hE x36.2
      have f39 := x36.2 _ _ hT0
      have t40 := th.up x36.2 hT
      have t41 := thW.up x36.2 hRw
      have t42 := tDo.up x36.2 hD
      have t43 := tLs.up x36.2 hB
      have t44 := tLs.up x36.2 hCu
      have t45 := tLs.up x36.2 hHa
      have t46 := tLs.up x36.2 hQu
      exact gx_out F (fun x hx => (htb x hx).elim) gc_J19 x36.1 o37 (.inr ⟨_, rfl, xTh_n (if_pos (.inr hy)) ⟨x36.1, x38⟩⟩)
    · refine g_callSN F dX2_addHand_13 mi_X1_checkArgument q1496 q1497 (ct_X1_checkArgument hy) rfl rfl (nle rfl) (nle rfl) (nle rfl) (g_purv ?_) g_purvX
      have r54 : h (A 0 2) = some (.inr (3, [.ref (A 1 2), .int 6])) := hRw.1 2 (by decide)
      obtain ⟨MD55, h56⟩ := hRw.2
      have l57 : lsO K (gNw K h0) h (A 1 2) (A 2 2) nh (A 5) (MD55 2) := h56 2 (by decide)
      have hxy : ¬ (mIn x 0 2 = 0 ∨ mIn y 1 30 = 0) := fun z => z.elim hx hy
      refine g_aload_n F dX2_addHand_16 0 rfl rfl ?_
      refine gf_X2_23_X2 (v := .ref (A 0 2)) F dX2_addHand_17 hT0 rfl ?_
      refine g_new (fs := [.int 0, .int 0, .int 0]) (b := 1) (bs := 15) F in_X7 tyX7 tyX7_ok q1581 q626 q90 gc_X7 nf_X7 dX2_addHand_20 (fun q58 h_59 hn_e60 ho_e60 e60 => ?_)
      have w61 := gE.no hE hn_e60
      have d62 := gnew hn_e60 hT0
      have d63 := gnew hn_e60 r54
      have d64 := gnew hn_e60 (l57).1
      have x65 := gE.new1 hE e60 hn_e60
      have f66 := gu_t e60 hT0 d62
      have f67 := gu_t e60 r54 d63
      have t68 := lsO.up (gE.new1 gE.rf e60 hn_e60) l57
      have t69 := th.up (gE.new1 gE.rf e60 hn_e60) hT
      have t70 := thW.up (gE.new1 gE.rf e60 hn_e60) hRw
      have t71 := tDo.up (gE.new1 gE.rf e60 hn_e60) hD
      have t72 := tLs.up (gE.new1 gE.rf e60 hn_e60) hB
      have t73 := tLs.up (gE.new1 gE.rf e60 hn_e60) hCu
      have t74 := tLs.up (gE.new1 gE.rf e60 hn_e60) hHa
      have t75 := tLs.up (gE.new1 gE.rf e60 hn_e60) hQu
      have f76 := gu_a e60
      refine g_dup F dX2_addHand_23 rfl ?_
      refine g_aload_n F dX2_addHand_24 0 rfl rfl ?_
      refine gf_X2_23_X2 (v := .ref (A 0 2)) F dX2_addHand_25 f66 rfl ?_
      refine g_callV F dX2_addHand_28 mi_X3_size q1141 q307 q308 gc_X3 f67 (ct_X3_size f67 t68) rfl rfl (nle rfl) (nle rfl) (nle rfl) (g_pur ?_) g_purX
      refine g_iload_n F dX2_addHand_31 2 rfl rfl ?_
      refine g_iload_n F dX2_addHand_32 1 rfl rfl ?_
      refine g_callI F dX2_addHand_33 mi_X7_init rfl q1582 q628 (ct_X7_init f76 ho_e60) rfl rfl (nle rfl) (nle rfl) (nle rfl) (g_purv ?_) g_purvX
      refine g_gen (fun h_91 e92 => ?_)
      have x93 := gE.wr1 x65 e92 w61
      have e94 := (by rw [e92, e60, gu_gu] : h_91 = gu h q58 _)
      have f95 := gu_t e92 f66 d62
      have f96 := gu_t e92 f67 d63
      have t97 := lsO.up (gE.new1 gE.rf e94 hn_e60) l57
      have t98 := th.up (gE.new1 gE.rf e94 hn_e60) hT
      have t99 := thW.up (gE.new1 gE.rf e94 hn_e60) hRw
      have t100 := tDo.up (gE.new1 gE.rf e94 hn_e60) hD
      have t101 := tLs.up (gE.new1 gE.rf e94 hn_e60) hB
      have t102 := tLs.up (gE.new1 gE.rf e94 hn_e60) hCu
      have t103 := tLs.up (gE.new1 gE.rf e94 hn_e60) hHa
      have t104 := tLs.up (gE.new1 gE.rf e94 hn_e60) hQu
      have f105 := gu_a e92
      rcases Classical.em (nh = 6) with hn | hn
      · refine g_callV (b := 0) (bs := 9) F dX2_addHand_36 mi_X3_add q1571 q1535 q1536 gc_X3 f96 (cx_X3_add f96 t97 (by rw [hn]; decide)) rfl rfl (nle rfl) (nle rfl) (nle rfl) g_pXV (g_pXX (fun q109 h_110 x111 o112 => ?_))
        have x113 := gE.tr x93 x111.2
        have f114 := x111.2 _ _ f95
        have f115 := x111.2 _ _ f96
        have f116 := x111.2 _ _ f105
        have t117 := lsO.up x111.2 t97
        have t118 := th.up x111.2 t98
        have t119 := thW.up x111.2 t99
        have t120 := tDo.up x111.2 t100
        have t121 := tLs.up x111.2 t101
        have t122 := tLs.up x111.2 t102
        have t123 := tLs.up x111.2 t103
        have t124 := tLs.up x111.2 t104
        exact gx_out F (fun x hx => (htb x hx).elim) gc_J23 x111.1 o112 (.inr ⟨_, rfl, xTh_n ((if_neg hxy).trans (if_pos hn)) ⟨x111.1, x113⟩⟩)
      · refine g_callV (b := 0) (bs := 0) F dX2_addHand_36 mi_X3_add q1571 q1535 q1536 gc_X3 f96 (ct_X3_add f96 t97 x93 (by omega) (fun i hi => gOb_h (t103 i hi)) (gOb_h f105) hKA (show nI nh < 6 from nI_lt (b := 6) (by omega) (by decide))) rfl rfl (nle rfl) (nle rfl) (nle rfl) (g_pO (fun v125 h_126 p127 => ?_)) g_pOX
        obtain ⟨rfl, p127⟩ := p127
        have f132 := lsG.ob p127 t97 f105 (by decide)
        have x133 := lsG.E p127
        refine g_eqs (st' := [.int (nI nh)]) rfl ?_
        have he : ∀ j, (j ≠ 3 ∧ j ≠ 67 + 2 * nh ∧ j ≠ 68 + 2 * nh) → (upd (upd (upd f (67 + 2 * nh) x) (68 + 2 * nh) y) 3 (nI (nh + 1))) j = f j := fun j hj => by rw [pk_un hj.1, pk_un hj.2.2, pk_un hj.2.1]
        exact g_iret F dX2_addHand_39 (.inl ⟨_, rfl, xS_i ((if_neg hxy).trans (if_neg hn)) x133 (by obtain ⟨A', a1, a2⟩ := th_addH (f' := upd (upd (upd f (67 + 2 * nh) x) (68 + 2 * nh) y) 3 (nI (nh + 1))) F.inj hKA t98 p127 (by rw [show vH (upd (upd (upd f (67 + 2 * nh) x) (68 + 2 * nh) y) 3 (nI (nh + 1))) nh = [.int (nI nh), .int y, .int x] from by unfold vH; rw [pk_un (by omega), pk_us, pk_un (by omega), pk_un (by omega), pk_us]]; exact f132) ⟨w61, ho_e60⟩ (by unfold vT; rw [(show mOn (upd (upd (upd f (67 + 2 * nh) x) (68 + 2 * nh) y) 3 (nI (nh + 1))) nb = mOn f nb from mSum_c (fun k hk => he _ (by omega))), he 5 (by omega), he 6 (by omega), he 0 (by omega), he 7 (by omega), he 8 (by omega), he 10 (by omega)]) (fun j h1 h2 => he j (by omega)) (fun i hi => vB_c nc12 (fun z hz => he z (by omega))) (fun i hi => vC_c (fun z h1 h2 => he z (by omega))) (fun i hi => vH_c (fun z h1 h2 => he z (by omega))) (fun i hi => vQ_c (fun z h1 h2 => he z (by omega))); exact ⟨A', o, nb, nc, nh + 1, nq, a1, (xHand_I hI2 ((if_neg hxy).trans (if_neg hn))).1, a2⟩)⟩)
