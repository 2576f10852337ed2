/-! ===== The theatre: a year, and things added (written by tools/class17.py) ===== -/
set_option maxHeartbeats 4000000 in
set_option maxRecDepth 100000 in
theorem ct_X2_age {K : gK} {h0 h : AH} {A : Nat → Nat → Nat} {o : Nat → Nat} {f : Nat → Int32} {nb nc nh nq Y : Nat} (hT : th K (gNw K h0) h A o f nb nc nh nq) (hE : gE h0 h) (hI : xI f nb nc nh nq Y) (hY : Y + 9 ≤ 1000000) {x : Int32} : gCt K yX2_age w_X2_age 7 104 2 8 h [.ref (A 7 1), .int x] (pM K h0 (A 7 1) (fun _ => 22) (xYear f nb nc x)) := by
  refine g_meth pf_X2_age (nle rfl) (fun p e s m args below meth c F hnm htb => ?_)
  have F : gFix K p s m args meth c cX2_age 5 RX2 (some .int) := F
  refine g_eql (lv' := [(0, .ref (A 7 1)), (1, .int x)]) rfl ?_
  have hTt := hT
  obtain ⟨⟨hT0, hTN⟩, -, -, hD, ⟨hB, hBN⟩, ⟨hCu, hCN⟩, ⟨hHa, hHN⟩, hQu, hDj, hSg⟩ := hTt
  have hRw := th.w hT
  have hI2 := hI
  obtain ⟨iC, iL, iBa, iWe, iDo, iCu, iMe⟩ := hI
  obtain ⟨f1, nb8, f2, nc12, f3, nh6, f4, nq12⟩ := iC
  have hC : mC f nb nc nh nq := ⟨f1, nb8, f2, nc12, f3, nh6, f4, nq12⟩
  have hneB : ∀ i j, i < nb → j < nb → i ≠ j → A 3 i ≠ A 3 j := fun i j hi hj z => tLs.ne hB hi hj (vB_ne (by omega) (by omega) z)
  have hneC : ∀ i j, i < nc → j < nc → i ≠ j → A 4 i ≠ A 4 j := fun i j hi hj z => tLs.ne hCu hi hj (vC_ne (by omega) (by omega) z)
  have hneH : ∀ i j, i < nh → j < nh → i ≠ j → A 5 i ≠ A 5 j := fun i j hi hj z => tLs.ne hHa hi hj (vH_ne (by omega) (by omega) z)
  refine g_iload_n F dX2_age_0 1 rfl rfl ?_
  refine g_i2l F dX2_age_1 rfl ?_
  refine g_lconst (v := 1) F dX2_age_2 rfl ?_
  refine g_ldc2 F q1525 dX2_age_3 ?_
  refine g_eqs (st' := [.long (Int32.toInt64 9), .long (Int32.toInt64 1), .long x.toInt64]) rfl ?_
  refine g_callSN F dX2_age_6 mi_X1_inRange q1495 q1460 (ct_X1_inRange (x := x) (lo := 1) (hi := 9)) rfl rfl (nle rfl) (nle rfl) (nle rfl) (g_pur ?_) g_purX
  rcases Classical.em (mIn x 1 9 = 0) with hx | hx
  · refine g_eqs (st' := [.int 0]) (by rw [hx]) ?_
    refine g_callSN (b := 1) (bs := 2) F dX2_age_9 mi_X1_checkArgument q1496 q1497 cx_X1_checkArgument rfl rfl (nle rfl) (nle rfl) (nle rfl) g_pXV (g_pXX (fun q11 h_12 x13 o14 => ?_))
    have x15 := gE.tr hE x13.2
    have f16 := x13.2 _ _ hT0
    have t17 := th.up x13.2 hT
    have t18 := thW.up x13.2 hRw
    have t19 := tDo.up x13.2 hD
    have t20 := tLs.up x13.2 hB
    have t21 := tLs.up x13.2 hCu
    have t22 := tLs.up x13.2 hHa
    have t23 := tLs.up x13.2 hQu
    exact gx_out F (fun x hx => (htb x hx).elim) gc_J19 x13.1 o14 (.inr ⟨_, rfl, xTh_n (if_pos hx) ⟨x13.1, x15⟩⟩)
  · refine g_callSN F dX2_age_9 mi_X1_checkArgument q1496 q1497 (ct_X1_checkArgument hx) rfl rfl (nle rfl) (nle rfl) (nle rfl) (g_purv ?_) g_purvX
    have hxb : xN x 9 := by have q := mIn_p hx; exact nI_of2 (by decide) (fun z => absurd (Int32.lt_of_le_of_lt q.1 z) (by decide)) q.2
    refine g_aload_n F dX2_age_12 0 rfl rfl ?_
    refine g_dup F dX2_age_13 rfl ?_
    refine gf_X2_57_X2 (v := .int (f 0)) F dX2_age_14 hT0 rfl ?_
    refine g_iload_n F dX2_age_17 1 rfl rfl ?_
    refine g_iadd F dX2_age_18 ?_
    refine gp_X2_57_X2 (fs' := [.ref (A 0 0), .ref (A 0 1), .ref (A 0 2), .ref (A 0 3), .ref (A 7 0), .int (f 5), .int (60 - mOn f nb), .int (f 6), .int ((f 0) + x), .int (f 7), .int (f 8), .int (f 10)]) F dX2_age_19 hT0 hTN.2 (nle rfl) rfl (fun h_31 e32 => ?_)
    have x33 := gE.wr1 hE e32 hTN.1
    have t34 := thW.oth e32 hT0 (by decide) hRw
    have t35 := tDo.ot2 e32 hT0 (by decide) hD
    have t36 := tLs.oth e32 hT0 (by decide) hB
    have t37 := tLs.oth e32 hT0 (by decide) hCu
    have t38 := tLs.oth e32 hT0 (by decide) hHa
    have t39 := tLs.oth e32 hT0 (by decide) hQu
    have f40 := gu_a e32
    refine g_iconst (v := 0) F dX2_age_22 rfl ?_
    refine g_istore_n (lv' := [(2, .int 0), (0, .ref (A 7 1)), (1, .int x)]) F dX2_age_23 rfl (by decide) rfl ?_
    refine g_aload_n F dX2_age_24 1 rfl rfl ?_
    refine gf_X2_14_X2 (v := .ref (A 0 0)) F dX2_age_25 f40 rfl ?_
    have r41 : h_31 (A 0 0) = some (.inr (3, [.ref (A 1 0), .int 8])) := t34.1 0 (by decide)
    obtain ⟨MD42, h43⟩ := t34.2
    have l44 : lsO K (gNw K h0) h_31 (A 1 0) (A 2 0) nb (A 3) (MD42 0) := h43 0 (by decide)
    refine g_callV (b := 1) (bs := 6) F dX2_age_28 mi_X3_iterator q743 q744 q745 gc_X3 r41 ct_X3_iterator rfl rfl (nle rfl) (nle rfl) (nle rfl) (g_pO (fun v45 h_46 p47 => ?_)) g_pOX
    obtain ⟨q52, rfl, hn_e53, ho_e53, e53⟩ := p47
    have w54 := gE.no x33 hn_e53
    have d55 := gnew hn_e53 f40
    have d56 := gnew hn_e53 r41
    have d57 := gnew hn_e53 (l44).1
    have x58 := gE.new1 x33 e53 hn_e53
    have f59 := gu_t e53 f40 d55
    have f60 := gu_t e53 r41 d56
    have t61 := lsO.up (gE.new1 gE.rf e53 hn_e53) l44
    have t62 := thW.up (gE.new1 gE.rf e53 hn_e53) t34
    have t63 := tDo.up (gE.new1 gE.rf e53 hn_e53) t35
    have t64 := tLs.up (gE.new1 gE.rf e53 hn_e53) t36
    have t65 := tLs.up (gE.new1 gE.rf e53 hn_e53) t37
    have t66 := tLs.up (gE.new1 gE.rf e53 hn_e53) t38
    have t67 := tLs.up (gE.new1 gE.rf e53 hn_e53) t39
    have f68 := gu_a e53
    refine g_eqs (st' := [.ref q52]) rfl ?_
    refine g_astore_n (lv' := [(3, .ref q52), (2, .int 0), (0, .ref (A 7 1)), (1, .int x)]) F dX2_age_31 rfl (by decide) rfl ?_
    have hB0 : tLs h_46 9 nb (A 3) (vB (xYrs f x 0) nc) := t64
    have lp32 : ∀ k, k ≤ nb → ∀ (h9 : AH), (gE h0 h9) → (h9 q52 = some (.inr (13, [.int (nI k), .ref (A 0 0)]))) → (h9 (A 7 1) = some (.inr (2, [.ref (A 0 0), .ref (A 0 1), .ref (A 0 2), .ref (A 0 3), .ref (A 7 0), .int (f 5), .int (60 - mOn f nb), .int (f 6), .int (f 0 + x), .int (f 7), .int (f 8), .int (f 10)]))) → (thW K (gNw K h0) h9 A o nb nc nh nq) → (tDo K (gNw K h0) h9 (A 7 0) f) → (tLs h9 9 nb (A 3) (vB (xYrs f x k) nc)) → (tLs h9 10 nc (A 4) (vC f)) → (tLs h9 11 nh (A 5) (vH f)) → (tLs h9 12 nq (A 6) (vQ f)) → G K p e s m args below meth c (gRm 7 104 2 8) 5 (pM K h0 (A 7 1) (fun _ => 22) (xYear f nb nc x)) h9 (1) (6) 32 [(0, .ref (A 7 1)), (1, .int x), (2, .int (mSum (fun k => if 0 < mLacks (xYrs f x (k + 1)) nc k then 1 else 0) k)), (3, .ref q52)] [] := by
      refine gloop nb (fun k hk ih => ?_)
      intro h9 hE9 hs9 ht9 hW9 hD9 hB9 hC9 hH9 hQ9
      refine g_aload_n F dX2_age_32 3 rfl rfl ?_
      have r69 : h9 (A 0 0) = some (.inr (3, [.ref (A 1 0), .int 8])) := hW9.1 0 (by decide)
      obtain ⟨MD70, h71⟩ := hW9.2
      have l72 : lsO K (gNw K h0) h9 (A 1 0) (A 2 0) nb (A 3) (MD70 0) := h71 0 (by decide)
      refine g_callF (x := ⟨"java/util/Iterator", "hasNext", "()Z"⟩) F dX2_age_33 mi_X13_hasNext rfl q761 0 rfl q372 q370 gc_X13 hs9 (ct_X13_hasNext (k := k) r69 l72 hs9 (by omega)) rfl rfl (nle rfl) (nle rfl) (nle rfl) (g_pur ?_) g_purX
      refine g_if_eq (tgt := 87) F dX2_age_38 (by decide) (fun c80 => ?_) (fun c80 => ?_)
      · have hkn : nb = k := by have : ¬ k < nb := (fun z => by simp [z] at c80); omega
        subst hkn
        have he : ∀ j, (j ≠ 0 ∧ ∀ i, i < nb → j ≠ 13 + 4 * i) → (upd (xYrs f x nb) 0 (xYrs f x nb 0 + x)) j = f j := fun j hj => by rw [pk_un hj.1, xYrs_n hj.2]
        refine g_iload_n F dX2_age_87 2 rfl rfl ?_
        exact g_iret F dX2_age_88 (.inl ⟨_, rfl, xS_i (if_neg hx) hE9 ⟨A, o, nb, nc, nh, nq, rfl, (mC_c hC (fun j h1 h2 => he j ⟨by omega, fun i hi => by omega⟩)), (th.of (f := upd (xYrs f x nb) 0 (xYrs f x nb 0 + x)) (by rw [show vT (upd (xYrs f x nb) 0 (xYrs f x nb 0 + x)) nb A = [.ref (A 0 0), .ref (A 0 1), .ref (A 0 2), .ref (A 0 3), .ref (A 7 0), .int (f 5), .int (60 - mOn f nb), .int (f 6), .int (f 0 + x), .int (f 7), .int (f 8), .int (f 10)] from by unfold vT; rw [(show mOn (upd (xYrs f x nb) 0 (xYrs f x nb 0 + x)) nb = mOn f nb from mSum_c (fun k hk => he _ ⟨by omega, fun i hi => by omega⟩)), he 5 ⟨by omega, fun i hi => by omega⟩, he 6 ⟨by omega, fun i hi => by omega⟩, (show (upd (xYrs f x nb) 0 (xYrs f x nb 0 + x)) 0 = f 0 + x from by rw [pk_us, xYrs_n (fun i hi => by omega)]), he 7 ⟨by omega, fun i hi => by omega⟩, he 8 ⟨by omega, fun i hi => by omega⟩, he 10 ⟨by omega, fun i hi => by omega⟩]]; exact ht9) hTN hW9 (tDo.c hD9 (fun j h1 h2 => he j ⟨by omega, fun i hi => by omega⟩)) (tLs.c hB9 (fun j hj => vB_c nc12 (fun z hz => pk_un (by omega)))) hBN (tLs.c hC9 (fun j hj => by exact vC_c (fun z h1 h2 => he z ⟨by omega, fun i hi => by omega⟩))) hCN (tLs.c hH9 (fun j hj => by exact vH_c (fun z h1 h2 => he z ⟨by omega, fun i hi => by omega⟩))) hHN (tLs.c hQ9 (fun j hj => vQ_c (fun z h1 h2 => he z ⟨by omega, fun i hi => by omega⟩))) hDj hSg)⟩⟩)
      · have hlt : k < nb := Classical.byContradiction (fun z => c80 (by simp [z]))
        refine g_aload_n F dX2_age_41 3 rfl rfl ?_
        refine g_callF (x := ⟨"java/util/Iterator", "next", "()Ljava/lang/Object;"⟩) F dX2_age_42 mi_X13_next rfl q763 3 rfl q394 q392 gc_X13 hs9 (ct_X13_next r69 l72 hs9 ho_e53 hlt (fun i hi => gNum_b (hB9 i hi))) rfl rfl (nle rfl) (nle rfl) (nle rfl) (g_pur ?_) g_purX
        refine g_gen (fun h_88 e89 => ?_)
        have x90 := gE.wr1 hE9 e89 w54
        have f91 := gu_t e89 ht9 d55
        have f92 := gu_t e89 r69 d56
        have t93 := lsO.oth e89 hs9 (by decide) l72
        have t94 := thW.oth e89 hs9 (by decide) hW9
        have t95 := tDo.ot2 e89 hs9 (by decide) hD9
        have t96 := tLs.oth e89 hs9 (by decide) hB9
        have t97 := tLs.oth e89 hs9 (by decide) hC9
        have t98 := tLs.oth e89 hs9 (by decide) hH9
        have t99 := tLs.oth e89 hs9 (by decide) hQ9
        have f100 := gu_a e89
        refine g_eqs (st' := [.ref (A 3 k)]) rfl ?_
        have b101 : h_88 (A 3 k) = some (.inr (9, [.int (nI k), .int (f (11 + 4 * k)), .int (mLoad f nc (nI k)), .int (mCnt f nc (nI k)), .int (f (12 + 4 * k)), .int (f (13 + 4 * k)), .int (f (14 + 4 * k))])) := by have := t96 k hlt; rw [vB_y nc12 (by omega)] at this; exact this
        refine g_castE F q1179 gc_X5 b101 dX2_age_47 ?_
        refine g_astore (lv' := [(4, .ref (A 3 k)), (0, .ref (A 7 1)), (1, .int x), (2, .int (mSum (fun k => if 0 < mLacks (xYrs f x (k + 1)) nc k then 1 else 0) k)), (3, .ref q52)]) F dX2_age_50 (by decide) rfl ?_
        refine g_aload F dX2_age_52 0 rfl ?_
        refine g_dup F dX2_age_54 rfl ?_
        refine gf_X2_101_X5 (v := .int (f (13 + 4 * k))) F dX2_age_55 b101 rfl ?_
        refine g_iload_n F dX2_age_58 2 rfl rfl ?_
        refine g_iadd F dX2_age_59 ?_
        refine gp_X2_101_X5 (fs' := [.int (nI k), .int (f (11 + 4 * k)), .int (mLoad f nc (nI k)), .int (mCnt f nc (nI k)), .int (f (12 + 4 * k)), .int ((f (13 + 4 * k)) + x), .int (f (14 + 4 * k))]) F dX2_age_60 b101 (hBN k hlt).2 (nle rfl) rfl (fun h_102 e103 => ?_)
        have x104 := gE.wr1 x90 e103 (hBN k hlt).1
        have f105 := gu_t e103 f91 (gne f91 b101 (by decide))
        have f106 := gu_t e103 f92 (gne f92 b101 (by decide))
        have f107 := gu_t e103 f100 (gne f100 b101 (by decide))
        have t108 := lsO.oth e103 b101 (by decide) t93
        have t109 := thW.oth e103 b101 (by decide) t94
        have t110 := tDo.ot2 e103 b101 (by decide) t95
        have t111 := tLs.put (i := k) (W := [.int (nI k), .int (f (11 + 4 * k)), .int (mLoad f nc (nI k)), .int (mCnt f nc (nI k)), .int (f (12 + 4 * k)), .int ((f (13 + 4 * k)) + x), .int (f (14 + 4 * k))]) e103 (fun j hj hji => hneB j k hj hlt hji) t96
        have t112 := tLs.oth e103 b101 (by decide) t97
        have t113 := tLs.oth e103 b101 (by decide) t98
        have t114 := tLs.oth e103 b101 (by decide) t99
        have f115 := gu_a e103
        refine g_iload_n F dX2_age_63 3 rfl rfl ?_
        refine g_aload F dX2_age_64 0 rfl ?_
        refine g_callV F dX2_age_66 mi_X5_onRope q1189 q1190 q1191 gc_X5 f115 (ct_X5_onRope f115) rfl rfl (nle rfl) (nle rfl) (nle rfl) (g_pur ?_) g_purX
        refine g_aload F dX2_age_69 0 rfl ?_
        refine g_callV F dX2_age_71 mi_X5_bears q1193 q1194 q1195 gc_X5 f115 (ct_X5_bears f115) rfl rfl (nle rfl) (nle rfl) (nle rfl) (g_pur ?_) g_purX
        refine g_icmp_le (tgt := 81) F dX2_age_74 (by decide) (fun c130 => ?_) (fun c130 => ?_)
        · have d1 : ¬ 0 < mLacks (xYrs f x (k + 1)) nc k := fun z => Int32.not_lt.mpr c130 ((yr_lacks nc12 (by omega) iWe (iBa k hlt).2.1 (iBa k hlt).2.2 hxb hY).mp z)
          refine g_iconst (v := 0) F dX2_age_81 rfl ?_
          refine g_iadd F dX2_age_82 ?_
          refine g_istore_n (lv' := [(2, .int ((mSum (fun k => if 0 < mLacks (xYrs f x (k + 1)) nc k then 1 else 0) k) + 0)), (4, .ref (A 3 k)), (0, .ref (A 7 1)), (1, .int x), (3, .ref q52)]) F dX2_age_83 rfl (by decide) rfl ?_
          refine g_goto (tgt := 32) F dX2_age_84 (by decide) ?_
          refine g_lv (lv' := [(0, .ref (A 7 1)), (1, .int x), (2, .int ((mSum (fun k => if 0 < mLacks (xYrs f x (k + 1)) nc k then 1 else 0) k) + 0)), (3, .ref q52)]) [2, 3, 0, 4] rfl ?_
          exact g_eql (lv' := [(0, .ref (A 7 1)), (1, .int x), (2, .int (mSum (fun k => if 0 < mLacks (xYrs f x (k + 1)) nc k then 1 else 0) (k + 1))), (3, .ref q52)]) (by simp only [mSum_s, d1, if_true, if_false]) (ih hlt h_102 x104 f107 f105 t109 t110 (tLs.c t111 (fun j hj => ageV nc12 (by omega))) t112 t113 t114)
        · have d1 : 0 < mLacks (xYrs f x (k + 1)) nc k := (yr_lacks nc12 (by omega) iWe (iBa k hlt).2.1 (iBa k hlt).2.2 hxb hY).mpr (Int32.not_le.mp c130)
          refine g_iconst (v := 1) F dX2_age_77 rfl ?_
          refine g_goto (tgt := 82) F dX2_age_78 (by decide) ?_
          refine g_iadd F dX2_age_82 ?_
          refine g_istore_n (lv' := [(2, .int ((mSum (fun k => if 0 < mLacks (xYrs f x (k + 1)) nc k then 1 else 0) k) + 1)), (4, .ref (A 3 k)), (0, .ref (A 7 1)), (1, .int x), (3, .ref q52)]) F dX2_age_83 rfl (by decide) rfl ?_
          refine g_goto (tgt := 32) F dX2_age_84 (by decide) ?_
          refine g_lv (lv' := [(0, .ref (A 7 1)), (1, .int x), (2, .int ((mSum (fun k => if 0 < mLacks (xYrs f x (k + 1)) nc k then 1 else 0) k) + 1)), (3, .ref q52)]) [2, 3, 0, 4] rfl ?_
          exact g_eql (lv' := [(0, .ref (A 7 1)), (1, .int x), (2, .int (mSum (fun k => if 0 < mLacks (xYrs f x (k + 1)) nc k then 1 else 0) (k + 1))), (3, .ref q52)]) (by simp only [mSum_s, d1, if_true, if_false]) (ih hlt h_102 x104 f107 f105 t109 t110 (tLs.c t111 (fun j hj => ageV nc12 (by omega))) t112 t113 t114)
    refine g_lv (lv' := [(0, .ref (A 7 1)), (1, .int x), (2, .int 0), (3, .ref q52)]) [2, 3, 1, 0] rfl ?_
    exact lp32 0 (Nat.zero_le _) h_46 x58 f68 f59 t62 t63 hB0 t65 t66 t67
