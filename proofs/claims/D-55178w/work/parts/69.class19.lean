/-! ===== The theatre: a cue added, made (written by tools/class19.py) ===== -/
set_option maxHeartbeats 4000000 in
set_option maxRecDepth 100000 in
theorem ct_X2_addCue {K : gK} {h0 h : AH} {A : Nat → Nat → Nat} {o : Nat → Nat} {f : Nat → Int32} {nb nc nh nq Y : Nat} (hT : th K (gNw K h0) h A o f nb nc nh nq) (hE : gE h0 h) (hI : xI f nb nc nh nq Y) (hY : Y ≤ 1000000) {q1 : Nat} {li x y u : Int32} (hq1 : h q1 = some (.inr (12, [.int li, .int x, .int y, .int u]))) (hqo : gOld K q1 = none) (hKA : gKA K) : gCt K yX2_addCue w_X2_addCue 9 180 3 24 h [.ref (A 7 1), .ref q1] (pM K h0 (A 7 1) (fun z => if z = 1 then 23 else if z = 2 then 22 else 24) (xCue f nb nq li x y u)) := by
  refine g_meth pf_X2_addCue (nle rfl) (fun p e s m args below meth c F hnm htb => ?_)
  have F : gFix K p s m args meth c cX2_addCue 3 RX2 (some .int) := F
  refine g_eql (lv' := [(0, .ref (A 7 1)), (1, .ref q1)]) rfl ?_
  have hTt := hT
  obtain ⟨⟨hT0, hTN⟩, -, -, hD, ⟨hB, hBN⟩, ⟨hCu, hCN⟩, ⟨hHa, hHN⟩, hQu, hDj, hSg⟩ := hTt
  have hRw := th.w hT
  have hI2 := hI
  obtain ⟨iC, iL, iBa, iWe, iDo, iCu, iMe⟩ := hI
  obtain ⟨f1, nb8, f2, nc12, f3, nh6, f4, nq12⟩ := iC
  have hC : mC f nb nc nh nq := ⟨f1, nb8, f2, nc12, f3, nh6, f4, nq12⟩
  have hneB : ∀ i j, i < nb → j < nb → i ≠ j → A 3 i ≠ A 3 j := fun i j hi hj z => tLs.ne hB hi hj (vB_ne (by omega) (by omega) z)
  have hneC : ∀ i j, i < nc → j < nc → i ≠ j → A 4 i ≠ A 4 j := fun i j hi hj z => tLs.ne hCu hi hj (vC_ne (by omega) (by omega) z)
  have hneH : ∀ i j, i < nh → j < nh → i ≠ j → A 5 i ≠ A 5 j := fun i j hi hj z => tLs.ne hHa hi hj (vH_ne (by omega) (by omega) z)
  refine g_aload_n F dX2_addCue_0 0 rfl rfl ?_
  refine g_aload_n F dX2_addCue_1 1 rfl rfl ?_
  refine gf_X2_281_X17 (v := .int x) F dX2_addCue_2 hq1 rfl ?_
  rcases Classical.em (mIn x 0 (nI nb - 1) = 0) with hx | hx
  · refine g_callV (b := 2) (bs := 18) F dX2_addCue_5 mi_X2_bar q1472 q1473 q1474 gc_X2 hT0 (cx_X2_bar hT hx) rfl rfl (nle rfl) (nle rfl) (nle rfl) g_pXV (g_pXX (fun q4 h_5 x6 o7 => ?_))
    have x8 := gE.tr hE x6.2
    have f9 := x6.2 _ _ hT0
    have f10 := x6.2 _ _ hq1
    have t11 := th.up x6.2 hT
    have t12 := thW.up x6.2 hRw
    have t13 := tDo.up x6.2 hD
    have t14 := tLs.up x6.2 hB
    have t15 := tLs.up x6.2 hCu
    have t16 := tLs.up x6.2 hHa
    have t17 := tLs.up x6.2 hQu
    exact gx_out F (fun x hx => (htb x hx).elim) gc_J21 x6.1 o7 (.inr ⟨_, rfl, xTh_n (if_pos hx) ⟨x6.1, x8⟩⟩)
  · obtain ⟨i, hi, rfl⟩ := xAt_i (by omega) hx
    skip
    refine g_callV F dX2_addCue_5 mi_X2_bar q1472 q1473 q1474 gc_X2 hT0 (ct_X2_bar hT hi) rfl rfl (nle rfl) (nle rfl) (nle rfl) (g_pur ?_) g_purX
    have b25 : h (A 3 i) = some (.inr (9, [.int (nI i), .int (f (11 + 4 * i)), .int (mLoad f nc (nI i)), .int (mCnt f nc (nI i)), .int (f (12 + 4 * i)), .int (f (13 + 4 * i)), .int (f (14 + 4 * i))])) := hB _ hi
    refine g_astore_n (lv' := [(2, .ref (A 3 i)), (0, .ref (A 7 1)), (1, .ref q1)]) F dX2_addCue_8 rfl (by decide) rfl ?_
    refine g_aload_n F dX2_addCue_9 2 rfl rfl ?_
    refine gf_X2_278_X17 (v := .int li) F dX2_addCue_10 hq1 rfl ?_
    refine g_i2l F dX2_addCue_13 rfl ?_
    refine g_lconst (v := 0) F dX2_addCue_14 rfl ?_
    refine g_ldc2 F q1925 dX2_addCue_15 ?_
    refine g_eqs (st' := [.long (Int32.toInt64 99), .long (Int32.toInt64 0), .long li.toInt64]) rfl ?_
    refine g_callSN F dX2_addCue_18 mi_X1_inRange q1495 q1460 (ct_X1_inRange (x := li) (lo := 0) (hi := 99)) rfl rfl (nle rfl) (nle rfl) (nle rfl) (g_pur ?_) g_purX
    refine g_if_eq (tgt := 54) F dX2_addCue_21 (by decide) (fun c33 => ?_) (fun c33 => ?_)
    · have dz : qIn f li nq ≠ 0 ∨ mIn li 0 99 = 0 ∨ mIn y 0 20 = 0 ∨ mIn u 0 9 = 0 := .inr (.inl c33)
      refine g_iconst (v := 0) F dX2_addCue_54 rfl ?_
      refine g_callSN (b := 2) (bs := 18) F dX2_addCue_55 mi_X1_checkArgument q1496 q1497 cx_X1_checkArgument rfl rfl (nle rfl) (nle rfl) (nle rfl) g_pXV (g_pXX (fun q37 h_38 x39 o40 => ?_))
      have x41 := gE.tr hE x39.2
      have f42 := x39.2 _ _ hT0
      have f43 := x39.2 _ _ hq1
      have f44 := x39.2 _ _ b25
      have t45 := th.up x39.2 hT
      have t46 := thW.up x39.2 hRw
      have t47 := tDo.up x39.2 hD
      have t48 := tLs.up x39.2 hB
      have t49 := tLs.up x39.2 hCu
      have t50 := tLs.up x39.2 hHa
      have t51 := tLs.up x39.2 hQu
      exact gx_out F (fun x hx => (htb x hx).elim) gc_J19 x39.1 o40 (.inr ⟨_, rfl, xTh_n ((if_neg hx).trans (if_pos dz)) ⟨x39.1, x41⟩⟩)
    · have d1 : ¬ mIn li 0 99 = 0 := c33
      refine g_aload_n F dX2_addCue_24 2 rfl rfl ?_
      refine gf_X2_284_X17 (v := .int u) F dX2_addCue_25 hq1 rfl ?_
      refine g_i2l F dX2_addCue_28 rfl ?_
      refine g_lconst (v := 0) F dX2_addCue_29 rfl ?_
      refine g_ldc2 F q1525 dX2_addCue_30 ?_
      refine g_eqs (st' := [.long (Int32.toInt64 9), .long (Int32.toInt64 0), .long u.toInt64]) rfl ?_
      refine g_callSN F dX2_addCue_33 mi_X1_inRange q1495 q1460 (ct_X1_inRange (x := u) (lo := 0) (hi := 9)) rfl rfl (nle rfl) (nle rfl) (nle rfl) (g_pur ?_) g_purX
      refine g_if_eq (tgt := 54) F dX2_addCue_36 (by decide) (fun c59 => ?_) (fun c59 => ?_)
      · have dz : qIn f li nq ≠ 0 ∨ mIn li 0 99 = 0 ∨ mIn y 0 20 = 0 ∨ mIn u 0 9 = 0 := .inr (.inr (.inr c59))
        refine g_iconst (v := 0) F dX2_addCue_54 rfl ?_
        refine g_callSN (b := 2) (bs := 18) F dX2_addCue_55 mi_X1_checkArgument q1496 q1497 cx_X1_checkArgument rfl rfl (nle rfl) (nle rfl) (nle rfl) g_pXV (g_pXX (fun q63 h_64 x65 o66 => ?_))
        have x67 := gE.tr hE x65.2
        have f68 := x65.2 _ _ hT0
        have f69 := x65.2 _ _ hq1
        have f70 := x65.2 _ _ b25
        have t71 := th.up x65.2 hT
        have t72 := thW.up x65.2 hRw
        have t73 := tDo.up x65.2 hD
        have t74 := tLs.up x65.2 hB
        have t75 := tLs.up x65.2 hCu
        have t76 := tLs.up x65.2 hHa
        have t77 := tLs.up x65.2 hQu
        exact gx_out F (fun x hx => (htb x hx).elim) gc_J19 x65.1 o66 (.inr ⟨_, rfl, xTh_n ((if_neg hx).trans (if_pos dz)) ⟨x65.1, x67⟩⟩)
      · have d2 : ¬ mIn u 0 9 = 0 := c59
        refine g_aload_n F dX2_addCue_39 1 rfl rfl ?_
        refine g_aload_n F dX2_addCue_40 2 rfl rfl ?_
        refine gf_X2_278_X17 (v := .int li) F dX2_addCue_41 hq1 rfl ?_
        refine g_callV (b := 2) (bs := 22) F dX2_addCue_44 mi_X2_cueWith q1926 q1928 qs14 gc_X2 hT0 (ct_X2_cueWith hT) rfl rfl (nle rfl) (nle rfl) (nle rfl) (g_pO (fun v78 h_79 p80 => ?_)) g_pOX
        obtain ⟨rfl, p80⟩ := p80
        have x85 := gE.tr hE p80
        have f86 := p80 _ _ hT0
        have f87 := p80 _ _ hq1
        have f88 := p80 _ _ b25
        have t89 := th.up p80 hT
        have t90 := thW.up p80 hRw
        have t91 := tDo.up p80 hD
        have t92 := tLs.up p80 hB
        have t93 := tLs.up p80 hCu
        have t94 := tLs.up p80 hHa
        have t95 := tLs.up p80 hQu
        refine g_eqs (st' := [va_rf ((qWi f o li nq).map (A 6))]) rfl ?_
        rcases hv : qWi f o li nq with _ | b9
        · refine g_eqs (st' := [.null]) (by first | rfl | (simp [hv, va_rf])) ?_
          have d0 : qIn f li nq = 0 := (qWi_n hSg).mp hv
          refine g_ifnonnullN F dX2_addCue_47 ?_
          refine g_iconst (v := 1) F dX2_addCue_50 rfl ?_
          refine g_goto (tgt := 55) F dX2_addCue_51 (by decide) ?_
          refine g_callSN F dX2_addCue_55 mi_X1_checkArgument q1496 q1497 (ct_X1_checkArgument (by decide)) rfl rfl (nle rfl) (nle rfl) (nle rfl) (g_purv ?_) g_purvX
          refine g_aload_n F dX2_addCue_58 2 rfl rfl ?_
          refine gf_X2_291_X17 (v := .int y) F dX2_addCue_59 f87 rfl ?_
          rcases Classical.em (mIn y 0 20 = 0) with hy | hy
          · refine g_callSN (b := 1) (bs := 16) F dX2_addCue_62 mi_X1_checkHeight q1508 q1509 (cx_X1_checkHeight hy) rfl rfl (nle rfl) (nle rfl) (nle rfl) g_pXV (g_pXX (fun q106 h_107 x108 o109 => ?_))
            have x110 := gE.tr x85 x108.2
            have f111 := x108.2 _ _ f86
            have f112 := x108.2 _ _ f87
            have f113 := x108.2 _ _ f88
            have t114 := th.up x108.2 t89
            have t115 := thW.up x108.2 t90
            have t116 := tDo.up x108.2 t91
            have t117 := tLs.up x108.2 t92
            have t118 := tLs.up x108.2 t93
            have t119 := tLs.up x108.2 t94
            have t120 := tLs.up x108.2 t95
            exact gx_out F (fun x hx => (htb x hx).elim) gc_J19 x108.1 o109 (.inr ⟨_, rfl, xTh_n ((if_neg hx).trans (if_pos (.inr (.inr (.inl hy))))) ⟨x108.1, x110⟩⟩)
          · refine g_callSN F dX2_addCue_62 mi_X1_checkHeight q1508 q1509 (ct_X1_checkHeight hy) rfl rfl (nle rfl) (nle rfl) (nle rfl) (g_purv ?_) g_purvX
            have dz : ¬ (qIn f li nq ≠ 0 ∨ mIn li 0 99 = 0 ∨ mIn y 0 20 = 0 ∨ mIn u 0 9 = 0) := fun z => z.elim (fun w => w d0) (fun z => z.elim d1 (fun z => z.elim hy d2))
            have r128 : h_79 (A 0 3) = some (.inr (3, [.ref (A 1 3), .int 12])) := t90.1 3 (by decide)
            obtain ⟨MD129, h130⟩ := t90.2
            have l131 : lsO K (gNw K h0) h_79 (A 1 3) (A 2 3) nq (fun i => A 6 (o i)) (MD129 3) := h130 3 (by decide)
            refine g_aload_n F dX2_addCue_65 1 rfl rfl ?_
            refine gf_X2_26_X2 (v := .ref (A 0 3)) F dX2_addCue_66 f86 rfl ?_
            refine g_aload_n F dX2_addCue_69 2 rfl rfl ?_
            rcases Classical.em (nq = 12) with hn | hn
            · refine g_callV (b := 1) (bs := 16) F dX2_addCue_70 mi_X3_add q1571 q1535 q1536 gc_X3 r128 (cx_X3_add r128 l131 (by rw [hn]; decide)) rfl rfl (nle rfl) (nle rfl) (nle rfl) g_pXV (g_pXX (fun q135 h_136 x137 o138 => ?_))
              have x139 := gE.tr x85 x137.2
              have f140 := x137.2 _ _ f86
              have f141 := x137.2 _ _ f87
              have f142 := x137.2 _ _ f88
              have f143 := x137.2 _ _ r128
              have t144 := lsO.up x137.2 l131
              have t145 := th.up x137.2 t89
              have t146 := thW.up x137.2 t90
              have t147 := tDo.up x137.2 t91
              have t148 := tLs.up x137.2 t92
              have t149 := tLs.up x137.2 t93
              have t150 := tLs.up x137.2 t94
              have t151 := tLs.up x137.2 t95
              exact gx_out F (fun x hx => (htb x hx).elim) gc_J23 x137.1 o138 (.inr ⟨_, rfl, xTh_n ((if_neg hx).trans ((if_neg dz).trans (if_pos hn))) ⟨x137.1, x139⟩⟩)
            · refine g_callV (b := 1) (bs := 7) F dX2_addCue_70 mi_X3_add q1571 q1535 q1536 gc_X3 r128 (ct_X3_add r128 l131 x85 (by omega) (fun i hi => gOb_q (t95 (o i) (hSg.1 i hi))) (gOb_q f87) hKA (show nI nq < 12 from nI_lt (b := 12) (by omega) (by decide))) rfl rfl (nle rfl) (nle rfl) (nle rfl) (g_pO (fun v152 h_153 p154 => ?_)) g_pOX
              obtain ⟨rfl, p154⟩ := p154
              have f159 := lsG.ob p154 l131 f87 (by decide)
              have x160 := lsG.E p154
              refine g_eqs (st' := [.int (nI nq)]) rfl ?_
              refine g_iconst (v := 1) F dX2_addCue_73 rfl ?_
              refine g_iadd F dX2_addCue_74 ?_
              exact g_iret F dX2_addCue_75 (.inl ⟨_, rfl, xS_i ((if_neg hx).trans ((if_neg dz).trans (if_neg hn))) x160 (by obtain ⟨A', o', a1, a2⟩ := th_addQ (p := qPos f li nq) F.inj hKA nb8 nc12 nh6 t89 p154 f159 qPos_n; exact ⟨A', o', nb, nc, nh, nq + 1, a1, (xCue_I hI2 ((if_neg hx).trans ((if_neg dz).trans (if_neg hn)))).1, a2⟩)⟩)
        · refine g_eqs (st' := [.ref (A 6 b9)]) (by first | rfl | (simp [hv, va_rf])) ?_
          have dz : qIn f li nq ≠ 0 ∨ mIn li 0 99 = 0 ∨ mIn y 0 20 = 0 ∨ mIn u 0 9 = 0 := .inl (fun z => by rw [(qWi_n hSg).mpr z] at hv; cases hv)
          refine g_ifnonnull (tgt := 54) F dX2_addCue_47 (by decide) ?_
          refine g_iconst (v := 0) F dX2_addCue_54 rfl ?_
          refine g_callSN (b := 1) (bs := 16) F dX2_addCue_55 mi_X1_checkArgument q1496 q1497 cx_X1_checkArgument rfl rfl (nle rfl) (nle rfl) (nle rfl) g_pXV (g_pXX (fun q164 h_165 x166 o167 => ?_))
          have x168 := gE.tr x85 x166.2
          have f169 := x166.2 _ _ f86
          have f170 := x166.2 _ _ f87
          have f171 := x166.2 _ _ f88
          have t172 := th.up x166.2 t89
          have t173 := thW.up x166.2 t90
          have t174 := tDo.up x166.2 t91
          have t175 := tLs.up x166.2 t92
          have t176 := tLs.up x166.2 t93
          have t177 := tLs.up x166.2 t94
          have t178 := tLs.up x166.2 t95
          exact gx_out F (fun x hx => (htb x hx).elim) gc_J19 x166.1 o167 (.inr ⟨_, rfl, xTh_n ((if_neg hx).trans (if_pos dz)) ⟨x166.1, x168⟩⟩)
set_option maxHeartbeats 4000000 in
set_option maxRecDepth 100000 in
theorem ct_X2_init {K : gK} {h0 h : AH} {t : Nat} (ht : h t = some (.inr (2, [.null, .null, .null, .null, .null, .int 0, .int 0, .int 0, .int 0, .int 0, .int 0, .int 0]))) (hNt : gNw K h0 t) (hE : gE h0 h) : gCt K yX2_init w_X2_init 5 93 9 24 h [.ref t] (pO (fun v h9 => v = none ∧ gE h0 h9 ∧ thE K (gNw K h0) h9 t x0)) := by
  refine g_meth pf_X2_init (nle rfl) (fun p e s m args below meth c F hnm htb => ?_)
  have F : gFix K p s m args meth c cX2_init 1 RX2 none := F
  refine g_eql (lv' := [(0, .ref t)]) rfl ?_
  refine g_aload_n F dX2_init_0 0 rfl rfl ?_
  refine g_objInit F q131 q124 q125 dX2_init_1 (nle rfl) (nle rfl) ?_
  refine g_aload_n F dX2_init_4 0 rfl rfl ?_
  refine g_new (fs := [.null, .int 0]) (b := 8) (bs := 22) F in_X3 tyX3 tyX3_ok q132 q133 q71 gc_X3 nf_X3 dX2_init_5 (fun q1 h_2 hn_e3 ho_e3 e3 => ?_)
  have w4 := gE.no hE hn_e3
  have d5 := gnew hn_e3 ht
  have x6 := gE.new1 hE e3 hn_e3
  have f7 := gu_t e3 ht d5
  have f8 := gu_a e3
  refine g_dup F dX2_init_8 rfl ?_
  refine g_bipush (v := 8) F dX2_init_9 rfl ?_
  refine g_callI (b := 7) (bs := 19) F dX2_init_11 mi_X3_init rfl q134 q135 (ct_X3_init f8 ho_e3) rfl rfl (nle rfl) (nle rfl) (nle rfl) (g_pO (fun v9 h_10 p11 => ?_)) g_pOX
  obtain ⟨rfl, a16, hn_e17, ho_e17, e18⟩ := p11
  obtain ⟨h_19, e17⟩ : ∃ h9, h9 = gu h_2 a16 (.inr (4, [.int 0, .ref (gAd K 203), .int 0])) := ⟨_, rfl⟩
  rw [← e17] at e18
  have w20 := gE.no x6 hn_e17
  have d21 := gnew hn_e17 f7
  have d22 := gnew hn_e17 f8
  have x23 := gE.new1 x6 e17 hn_e17
  have f24 := gu_t e17 f7 d21
  have f25 := gu_t e17 f8 d22
  have f26 := gu_a e17
  have x27 := gE.wr1 x23 e18 w4
  have f28 := gu_t e18 f24 d5
  have f29 := gu_t e18 f26 (Ne.symm d22)
  have f30 := gu_a e18
  refine g_eqs (st' := [.ref q1, .ref t]) rfl ?_
  refine gp_X2_14_X2 (fs' := [.ref q1, .null, .null, .null, .null, .int 0, .int 0, .int 0, .int 0, .int 0, .int 0, .int 0]) F dX2_init_14 (Or.inr ⟨_, rfl⟩) f28 hNt.2 (nle rfl) rfl (fun h_31 e32 => ?_)
  have x33 := gE.wr1 x27 e32 hNt.1
  have f34 := gu_t e32 f29 (Ne.symm d21)
  have f35 := gu_t e32 f30 (Ne.symm d5)
  have f36 := gu_a e32
  refine g_aload_n F dX2_init_17 0 rfl rfl ?_
  refine g_new (fs := [.null, .int 0]) (b := 6) (bs := 17) F in_X3 tyX3 tyX3_ok q132 q133 q71 gc_X3 nf_X3 dX2_init_18 (fun q37 h_38 hn_e39 ho_e39 e39 => ?_)
  have w40 := gE.no x33 hn_e39
  have d41 := gnew hn_e39 f34
  have d42 := gnew hn_e39 f35
  have d43 := gnew hn_e39 f36
  have x44 := gE.new1 x33 e39 hn_e39
  have f45 := gu_t e39 f34 d41
  have f46 := gu_t e39 f35 d42
  have f47 := gu_t e39 f36 d43
  have f48 := gu_a e39
  refine g_dup F dX2_init_21 rfl ?_
  refine g_bipush (v := 12) F dX2_init_22 rfl ?_
  refine g_callI (b := 5) (bs := 14) F dX2_init_24 mi_X3_init rfl q134 q135 (ct_X3_init f48 ho_e39) rfl rfl (nle rfl) (nle rfl) (nle rfl) (g_pO (fun v49 h_50 p51 => ?_)) g_pOX
  obtain ⟨rfl, a56, hn_e57, ho_e57, e58⟩ := p51
  obtain ⟨h_59, e57⟩ : ∃ h9, h9 = gu h_38 a56 (.inr (4, [.int 0, .ref (gAd K 203), .int 0])) := ⟨_, rfl⟩
  rw [← e57] at e58
  have w60 := gE.no x44 hn_e57
  have d61 := gnew hn_e57 f45
  have d62 := gnew hn_e57 f46
  have d63 := gnew hn_e57 f47
  have d64 := gnew hn_e57 f48
  have x65 := gE.new1 x44 e57 hn_e57
  have f66 := gu_t e57 f45 d61
  have f67 := gu_t e57 f46 d62
  have f68 := gu_t e57 f47 d63
  have f69 := gu_t e57 f48 d64
  have f70 := gu_a e57
  have x71 := gE.wr1 x65 e58 w40
  have f72 := gu_t e58 f66 d41
  have f73 := gu_t e58 f67 d42
  have f74 := gu_t e58 f68 d43
  have f75 := gu_t e58 f70 (Ne.symm d64)
  have f76 := gu_a e58
  refine g_eqs (st' := [.ref q37, .ref t]) rfl ?_
  refine gp_X2_20_X2 (fs' := [.ref q1, .ref q37, .null, .null, .null, .int 0, .int 0, .int 0, .int 0, .int 0, .int 0, .int 0]) F dX2_init_27 (Or.inr ⟨_, rfl⟩) f74 hNt.2 (nle rfl) rfl (fun h_77 e78 => ?_)
  have x79 := gE.wr1 x71 e78 hNt.1
  have f80 := gu_t e78 f72 (Ne.symm d21)
  have f81 := gu_t e78 f73 (Ne.symm d5)
  have f82 := gu_t e78 f75 (Ne.symm d63)
  have f83 := gu_t e78 f76 (Ne.symm d43)
  have f84 := gu_a e78
  refine g_aload_n F dX2_init_30 0 rfl rfl ?_
  refine g_new (fs := [.null, .int 0]) (b := 4) (bs := 12) F in_X3 tyX3 tyX3_ok q132 q133 q71 gc_X3 nf_X3 dX2_init_31 (fun q85 h_86 hn_e87 ho_e87 e87 => ?_)
  have w88 := gE.no x79 hn_e87
  have d89 := gnew hn_e87 f80
  have d90 := gnew hn_e87 f81
  have d91 := gnew hn_e87 f82
  have d92 := gnew hn_e87 f83
  have d93 := gnew hn_e87 f84
  have x94 := gE.new1 x79 e87 hn_e87
  have f95 := gu_t e87 f80 d89
  have f96 := gu_t e87 f81 d90
  have f97 := gu_t e87 f82 d91
  have f98 := gu_t e87 f83 d92
  have f99 := gu_t e87 f84 d93
  have f100 := gu_a e87
  refine g_dup F dX2_init_34 rfl ?_
  refine g_bipush (v := 6) F dX2_init_35 rfl ?_
  refine g_callI (b := 3) (bs := 9) F dX2_init_37 mi_X3_init rfl q134 q135 (ct_X3_init f100 ho_e87) rfl rfl (nle rfl) (nle rfl) (nle rfl) (g_pO (fun v101 h_102 p103 => ?_)) g_pOX
  obtain ⟨rfl, a108, hn_e109, ho_e109, e110⟩ := p103
  obtain ⟨h_111, e109⟩ : ∃ h9, h9 = gu h_86 a108 (.inr (4, [.int 0, .ref (gAd K 203), .int 0])) := ⟨_, rfl⟩
  rw [← e109] at e110
  have w112 := gE.no x94 hn_e109
  have d113 := gnew hn_e109 f95
  have d114 := gnew hn_e109 f96
  have d115 := gnew hn_e109 f97
  have d116 := gnew hn_e109 f98
  have d117 := gnew hn_e109 f99
  have d118 := gnew hn_e109 f100
  have x119 := gE.new1 x94 e109 hn_e109
  have f120 := gu_t e109 f95 d113
  have f121 := gu_t e109 f96 d114
  have f122 := gu_t e109 f97 d115
  have f123 := gu_t e109 f98 d116
  have f124 := gu_t e109 f99 d117
  have f125 := gu_t e109 f100 d118
  have f126 := gu_a e109
  have x127 := gE.wr1 x119 e110 w88
  have f128 := gu_t e110 f120 d89
  have f129 := gu_t e110 f121 d90
  have f130 := gu_t e110 f122 d91
  have f131 := gu_t e110 f123 d92
  have f132 := gu_t e110 f124 d93
  have f133 := gu_t e110 f126 (Ne.symm d118)
  have f134 := gu_a e110
  refine g_eqs (st' := [.ref q85, .ref t]) rfl ?_
  refine gp_X2_23_X2 (fs' := [.ref q1, .ref q37, .ref q85, .null, .null, .int 0, .int 0, .int 0, .int 0, .int 0, .int 0, .int 0]) F dX2_init_40 (Or.inr ⟨_, rfl⟩) f132 hNt.2 (nle rfl) rfl (fun h_135 e136 => ?_)
  have x137 := gE.wr1 x127 e136 hNt.1
  have f138 := gu_t e136 f128 (Ne.symm d21)
  have f139 := gu_t e136 f129 (Ne.symm d5)
  have f140 := gu_t e136 f130 (Ne.symm d63)
  have f141 := gu_t e136 f131 (Ne.symm d43)
  have f142 := gu_t e136 f133 (Ne.symm d117)
  have f143 := gu_t e136 f134 (Ne.symm d93)
  have f144 := gu_a e136
  refine g_aload_n F dX2_init_43 0 rfl rfl ?_
  refine g_new (fs := [.null, .int 0]) (b := 2) (bs := 7) F in_X3 tyX3 tyX3_ok q132 q133 q71 gc_X3 nf_X3 dX2_init_44 (fun q145 h_146 hn_e147 ho_e147 e147 => ?_)
  have w148 := gE.no x137 hn_e147
  have d149 := gnew hn_e147 f138
  have d150 := gnew hn_e147 f139
  have d151 := gnew hn_e147 f140
  have d152 := gnew hn_e147 f141
  have d153 := gnew hn_e147 f142
  have d154 := gnew hn_e147 f143
  have d155 := gnew hn_e147 f144
  have x156 := gE.new1 x137 e147 hn_e147
  have f157 := gu_t e147 f138 d149
  have f158 := gu_t e147 f139 d150
  have f159 := gu_t e147 f140 d151
  have f160 := gu_t e147 f141 d152
  have f161 := gu_t e147 f142 d153
  have f162 := gu_t e147 f143 d154
  have f163 := gu_t e147 f144 d155
  have f164 := gu_a e147
  refine g_dup F dX2_init_47 rfl ?_
  refine g_bipush (v := 12) F dX2_init_48 rfl ?_
  refine g_callI (b := 1) (bs := 4) F dX2_init_50 mi_X3_init rfl q134 q135 (ct_X3_init f164 ho_e147) rfl rfl (nle rfl) (nle rfl) (nle rfl) (g_pO (fun v165 h_166 p167 => ?_)) g_pOX
  obtain ⟨rfl, a172, hn_e173, ho_e173, e174⟩ := p167
  obtain ⟨h_175, e173⟩ : ∃ h9, h9 = gu h_146 a172 (.inr (4, [.int 0, .ref (gAd K 203), .int 0])) := ⟨_, rfl⟩
  rw [← e173] at e174
  have w176 := gE.no x156 hn_e173
  have d177 := gnew hn_e173 f157
  have d178 := gnew hn_e173 f158
  have d179 := gnew hn_e173 f159
  have d180 := gnew hn_e173 f160
  have d181 := gnew hn_e173 f161
  have d182 := gnew hn_e173 f162
  have d183 := gnew hn_e173 f163
  have d184 := gnew hn_e173 f164
  have x185 := gE.new1 x156 e173 hn_e173
  have f186 := gu_t e173 f157 d177
  have f187 := gu_t e173 f158 d178
  have f188 := gu_t e173 f159 d179
  have f189 := gu_t e173 f160 d180
  have f190 := gu_t e173 f161 d181
  have f191 := gu_t e173 f162 d182
  have f192 := gu_t e173 f163 d183
  have f193 := gu_t e173 f164 d184
  have f194 := gu_a e173
  have x195 := gE.wr1 x185 e174 w148
  have f196 := gu_t e174 f186 d149
  have f197 := gu_t e174 f187 d150
  have f198 := gu_t e174 f188 d151
  have f199 := gu_t e174 f189 d152
  have f200 := gu_t e174 f190 d153
  have f201 := gu_t e174 f191 d154
  have f202 := gu_t e174 f192 d155
  have f203 := gu_t e174 f194 (Ne.symm d184)
  have f204 := gu_a e174
  refine g_eqs (st' := [.ref q145, .ref t]) rfl ?_
  refine gp_X2_26_X2 (fs' := [.ref q1, .ref q37, .ref q85, .ref q145, .null, .int 0, .int 0, .int 0, .int 0, .int 0, .int 0, .int 0]) F dX2_init_53 (Or.inr ⟨_, rfl⟩) f202 hNt.2 (nle rfl) rfl (fun h_205 e206 => ?_)
  have x207 := gE.wr1 x195 e206 hNt.1
  have f208 := gu_t e206 f196 (Ne.symm d21)
  have f209 := gu_t e206 f197 (Ne.symm d5)
  have f210 := gu_t e206 f198 (Ne.symm d63)
  have f211 := gu_t e206 f199 (Ne.symm d43)
  have f212 := gu_t e206 f200 (Ne.symm d117)
  have f213 := gu_t e206 f201 (Ne.symm d93)
  have f214 := gu_t e206 f203 (Ne.symm d183)
  have f215 := gu_t e206 f204 (Ne.symm d155)
  have f216 := gu_a e206
  refine g_aload_n F dX2_init_56 0 rfl rfl ?_
  refine g_iconst (v := 4) F dX2_init_57 rfl ?_
  refine g_newa (t := 2) (atype := .boolean) (N := 4) (d := .inl (fun _ => 0)) (b := 0) (bs := 0) F q223 (by decide) rfl (fun _ => rfl) dX2_init_58 (by decide) rfl (by decide) (fun q217 h_218 hn_e219 ho_e219 e219 => ?_)
  have w220 := gE.no x207 hn_e219
  have d221 := gnew hn_e219 f208
  have d222 := gnew hn_e219 f209
  have d223 := gnew hn_e219 f210
  have d224 := gnew hn_e219 f211
  have d225 := gnew hn_e219 f212
  have d226 := gnew hn_e219 f213
  have d227 := gnew hn_e219 f214
  have d228 := gnew hn_e219 f215
  have d229 := gnew hn_e219 f216
  have x230 := gE.new1 x207 e219 hn_e219
  have f231 := gu_t e219 f208 d221
  have f232 := gu_t e219 f209 d222
  have f233 := gu_t e219 f210 d223
  have f234 := gu_t e219 f211 d224
  have f235 := gu_t e219 f212 d225
  have f236 := gu_t e219 f213 d226
  have f237 := gu_t e219 f214 d227
  have f238 := gu_t e219 f215 d228
  have f239 := gu_t e219 f216 d229
  have f240 := gu_a e219
  refine gp_X2_29_X2 (fs' := [.ref q1, .ref q37, .ref q85, .ref q145, .ref q217, .int 0, .int 0, .int 0, .int 0, .int 0, .int 0, .int 0]) F hnm dX2_init_60 (Or.inr ⟨_, rfl⟩) f239 hNt.2 (nle rfl) rfl (fun h_241 e242 => ?_)
  have x243 := gE.wr1 x230 e242 hNt.1
  have f244 := gu_t e242 f231 (Ne.symm d21)
  have f245 := gu_t e242 f232 (Ne.symm d5)
  have f246 := gu_t e242 f233 (Ne.symm d63)
  have f247 := gu_t e242 f234 (Ne.symm d43)
  have f248 := gu_t e242 f235 (Ne.symm d117)
  have f249 := gu_t e242 f236 (Ne.symm d93)
  have f250 := gu_t e242 f237 (Ne.symm d183)
  have f251 := gu_t e242 f238 (Ne.symm d155)
  have f252 := gu_t e242 f240 (Ne.symm d229)
  have f253 := gu_a e242
  refine g_aload_n F dX2_init_63 0 rfl rfl ?_
  refine g_bipush (v := 15) F dX2_init_64 rfl ?_
  refine gp_X2_33_X2 (fs' := [.ref q1, .ref q37, .ref q85, .ref q145, .ref q217, .int 15, .int 0, .int 0, .int 0, .int 0, .int 0, .int 0]) F dX2_init_66 f253 hNt.2 (nle rfl) rfl (fun h_254 e255 => ?_)
  have x256 := gE.wr1 x243 e255 hNt.1
  have f257 := gu_t e255 f244 (Ne.symm d21)
  have f258 := gu_t e255 f245 (Ne.symm d5)
  have f259 := gu_t e255 f246 (Ne.symm d63)
  have f260 := gu_t e255 f247 (Ne.symm d43)
  have f261 := gu_t e255 f248 (Ne.symm d117)
  have f262 := gu_t e255 f249 (Ne.symm d93)
  have f263 := gu_t e255 f250 (Ne.symm d183)
  have f264 := gu_t e255 f251 (Ne.symm d155)
  have f265 := gu_t e255 f252 (Ne.symm d229)
  have f266 := gu_a e255
  refine g_aload_n F dX2_init_69 0 rfl rfl ?_
  refine g_bipush (v := 60) F dX2_init_70 rfl ?_
  refine gp_X2_37_X2 (fs' := [.ref q1, .ref q37, .ref q85, .ref q145, .ref q217, .int 15, .int 60, .int 0, .int 0, .int 0, .int 0, .int 0]) F dX2_init_72 f266 hNt.2 (nle rfl) rfl (fun h_267 e268 => ?_)
  have x269 := gE.wr1 x256 e268 hNt.1
  have f270 := gu_t e268 f257 (Ne.symm d21)
  have f271 := gu_t e268 f258 (Ne.symm d5)
  have f272 := gu_t e268 f259 (Ne.symm d63)
  have f273 := gu_t e268 f260 (Ne.symm d43)
  have f274 := gu_t e268 f261 (Ne.symm d117)
  have f275 := gu_t e268 f262 (Ne.symm d93)
  have f276 := gu_t e268 f263 (Ne.symm d183)
  have f277 := gu_t e268 f264 (Ne.symm d155)
  have f278 := gu_t e268 f265 (Ne.symm d229)
  have f279 := gu_a e268
  refine g_aload_n F dX2_init_75 0 rfl rfl ?_
  refine g_bipush (v := 40) F dX2_init_76 rfl ?_
  refine gp_X2_40_X2 (fs' := [.ref q1, .ref q37, .ref q85, .ref q145, .ref q217, .int 15, .int 60, .int 40, .int 0, .int 0, .int 0, .int 0]) F dX2_init_78 f279 hNt.2 (nle rfl) rfl (fun h_280 e281 => ?_)
  have x282 := gE.wr1 x269 e281 hNt.1
  have f283 := gu_t e281 f270 (Ne.symm d21)
  have f284 := gu_t e281 f271 (Ne.symm d5)
  have f285 := gu_t e281 f272 (Ne.symm d63)
  have f286 := gu_t e281 f273 (Ne.symm d43)
  have f287 := gu_t e281 f274 (Ne.symm d117)
  have f288 := gu_t e281 f275 (Ne.symm d93)
  have f289 := gu_t e281 f276 (Ne.symm d183)
  have f290 := gu_t e281 f277 (Ne.symm d155)
  have f291 := gu_t e281 f278 (Ne.symm d229)
  have f292 := gu_a e281
  refine g_aload_n F dX2_init_81 0 rfl rfl ?_
  refine g_iconst (v := (-1)) F dX2_init_82 rfl ?_
  refine gp_X2_43_X2 (fs' := [.ref q1, .ref q37, .ref q85, .ref q145, .ref q217, .int 15, .int 60, .int 40, .int 0, .int (-1), .int 0, .int 0]) F dX2_init_83 f292 hNt.2 (nle rfl) rfl (fun h_293 e294 => ?_)
  have x295 := gE.wr1 x282 e294 hNt.1
  have f296 := gu_t e294 f283 (Ne.symm d21)
  have f297 := gu_t e294 f284 (Ne.symm d5)
  have f298 := gu_t e294 f285 (Ne.symm d63)
  have f299 := gu_t e294 f286 (Ne.symm d43)
  have f300 := gu_t e294 f287 (Ne.symm d117)
  have f301 := gu_t e294 f288 (Ne.symm d93)
  have f302 := gu_t e294 f289 (Ne.symm d183)
  have f303 := gu_t e294 f290 (Ne.symm d155)
  have f304 := gu_t e294 f291 (Ne.symm d229)
  have f305 := gu_a e294
  exact g_vret F dX2_init_86 (⟨none, rfl, rfl, x295, th_new (f := x0) f305 hNt f297 f299 f301 f303 f296 f298 f300 f302 ⟨w20, ho_e17⟩ ⟨w60, ho_e57⟩ ⟨w112, ho_e109⟩ ⟨w176, ho_e173⟩ f304 ⟨w220, ho_e219⟩ ho_e219 d61 d113 d177 d115 d179 d181⟩)
