/-! ===== The theatre: flights (written by tools/class10.py) ===== -/
set_option maxHeartbeats 4000000 in
set_option maxRecDepth 100000 in
theorem ct_X2_checkFlight {K : gK} {N : Nat → Prop} {h : AH} {A : Nat → Nat → Nat} {o : Nat → Nat} {f : Nat → Int32} {nb nc nh nq : Nat} (hT : th K N h A o f nb nc nh nq) {Y : Nat} (hI : xI f nb nc nh nq Y) (hY : Y ≤ 1000000) {i : Nat} (hi : i < nb) : gCt K yX2_checkFlight w_X2_checkFlight 7 149 3 12 h [.ref (A 7 1), .ref (A 3 i)] (pT (fun v h9 => v = none ∧ mWhy f nc nh i = 0 ∧ gE h h9) (fun q h9 => mWhy f nc nh i ≠ 0 ∧ tX h 20 [.null, .null, .null, .null, .null, .int 0, .int (mWhy f nc nh i), .int (mDet f nc nh i)] q h9)) := by
  refine g_meth pf_X2_checkFlight (nle rfl) (fun p e s m args below meth c F hnm htb => ?_)
  have F : gFix K p s m args meth c cX2_checkFlight 3 RX2 none := F
  refine g_eql (lv' := [(0, .ref (A 7 1)), (1, .ref (A 3 i))]) rfl ?_
  have hTt := hT
  obtain ⟨⟨hT0, hTN⟩, hRw, ⟨MD, hLs⟩, ⟨dz, hZ0, hZN, hZo, hZd⟩, ⟨hB, hBN⟩, ⟨hCu, hCN⟩, ⟨hHa, hHN⟩, hQu, hDj, hSg⟩ := hTt
  have hR0 : h (A 0 0) = some (.inr (3, [.ref (A 1 0), .int 8])) := hRw 0 (by decide)
  have hR1 : h (A 0 1) = some (.inr (3, [.ref (A 1 1), .int 12])) := hRw 1 (by decide)
  have hR2 : h (A 0 2) = some (.inr (3, [.ref (A 1 2), .int 6])) := hRw 2 (by decide)
  have hR3 : h (A 0 3) = some (.inr (3, [.ref (A 1 3), .int 12])) := hRw 3 (by decide)
  have hL0 : lsO K N h (A 1 0) (A 2 0) nb (A 3) (MD 0) := hLs 0 (by decide)
  have hL1 : lsO K N h (A 1 1) (A 2 1) nc (A 4) (MD 1) := hLs 1 (by decide)
  have hL2 : lsO K N h (A 1 2) (A 2 2) nh (A 5) (MD 2) := hLs 2 (by decide)
  have hL3 : lsO K N h (A 1 3) (A 2 3) nq (fun i => A 6 (o i)) (MD 3) := hLs 3 (by decide)
  have nb15 : nb ≤ 15 := hL0.2.2.1
  have nc15 : nc ≤ 15 := hL1.2.2.1
  have nh15 : nh ≤ 15 := hL2.2.2.1
  have nq15 : nq ≤ 15 := hL3.2.2.1
  have hI2 := hI
  obtain ⟨iC, iL, iBa, iWe, iDo, iCu, iMe⟩ := hI
  obtain ⟨f1, nb8, f2, nc12, f3, nh6, f4, nq12⟩ := iC
  have hyr : xN (f (13 + 4 * i)) 1000000 := xN_m (iBa i hi).2.2 hY
  have hlk := lacks_iff (f := f) (nc := nc) (i := i) hyr (iBa i hi).2.1 (mLoad_b iWe nc12)
  have hof : mAbs (mLoad f nc (nI i) + 0 - 10 * f (12 + 4 * i)) = mOff f nc i (nI i) := by rw [Int32.add_zero]; rfl
  have hon : mMax 0 (300 - 25 * f (13 + 4 * i)) = mBears f i := rfl
  have b1 : h (A 3 i) = some (.inr (9, [.int (nI i), .int (f (11 + 4 * i)), .int (mLoad f nc (nI i)), .int (mCnt f nc (nI i)), .int (f (12 + 4 * i)), .int (f (13 + 4 * i)), .int (f (14 + 4 * i))])) := hB _ hi
  refine g_aload_n F dX2_checkFlight_0 1 rfl rfl ?_
  refine g_callV F dX2_checkFlight_1 mi_X5_outBy_2 q1184 q1185 q1186 gc_X5 b1 (ct_X5_outBy_2 b1) rfl rfl (nle rfl) (nle rfl) (nle rfl) (g_pur ?_) g_purX
  refine g_aload_n F dX2_checkFlight_4 0 rfl rfl ?_
  refine gf_X2_33_X2 (v := .int (f 5)) F dX2_checkFlight_5 hT0 rfl ?_
  refine g_icmp_gt (tgt := 15) F dX2_checkFlight_8 (by decide) (fun c9 => ?_) (fun c9 => ?_)
  · rw [hof] at c9
    have hwv : mWhy f nc nh i = 3 := if_pos c9
    have hw : mWhy f nc nh i ≠ 0 := by rw [hwv]; decide
    have hdv : mDet f nc nh i = mAbs (mLoad f nc (nI i) + 0 - 10 * f (12 + 4 * i)) := by rw [hof]; exact if_pos hwv
    refine g_iconst (v := 0) F dX2_checkFlight_15 rfl ?_
    refine g_iconst (v := 3) F dX2_checkFlight_16 rfl ?_
    refine g_aload_n F dX2_checkFlight_17 1 rfl rfl ?_
    refine g_callV F dX2_checkFlight_18 mi_X5_outBy_2 q1184 q1185 q1186 gc_X5 b1 (ct_X5_outBy_2 b1) rfl rfl (nle rfl) (nle rfl) (nle rfl) (g_pur ?_) g_purX
    refine g_callS (b := 2) (bs := 4) F dX2_checkFlight_21 mi_X10_check q1142 q1143 cx_X10_check rfl rfl (nle rfl) (nle rfl) (nle rfl) g_pXV (g_pXX (fun q20 h_21 x22 o23 => ?_))
    have x24 := gE.tr gE.rf x22.2
    exact gx_out F (fun x hx => (htb x hx).elim) gc_X10 x22.1 o23 (.inr ⟨_, rfl, hw, by rw [hwv, hdv]; exact x22.1, x24⟩)
  · rw [hof] at c9
    have d3 : ¬ f 5 < mOff f nc i (nI i) := c9
    refine g_iconst (v := 1) F dX2_checkFlight_11 rfl ?_
    refine g_goto (tgt := 16) F dX2_checkFlight_12 (by decide) ?_
    refine g_iconst (v := 3) F dX2_checkFlight_16 rfl ?_
    refine g_aload_n F dX2_checkFlight_17 1 rfl rfl ?_
    refine g_callV F dX2_checkFlight_18 mi_X5_outBy_2 q1184 q1185 q1186 gc_X5 b1 (ct_X5_outBy_2 b1) rfl rfl (nle rfl) (nle rfl) (nle rfl) (g_pur ?_) g_purX
    refine g_callS F dX2_checkFlight_21 mi_X10_check q1142 q1143 (ct_X10_check (by decide)) rfl rfl (nle rfl) (nle rfl) (nle rfl) (g_purv ?_) g_purvX
    refine g_aload_n F dX2_checkFlight_24 1 rfl rfl ?_
    refine g_callV F dX2_checkFlight_25 mi_X5_onRope q1189 q1190 q1191 gc_X5 b1 (ct_X5_onRope b1) rfl rfl (nle rfl) (nle rfl) (nle rfl) (g_pur ?_) g_purX
    refine g_aload_n F dX2_checkFlight_28 1 rfl rfl ?_
    refine g_callV F dX2_checkFlight_29 mi_X5_bears q1193 q1194 q1195 gc_X5 b1 (ct_X5_bears b1) rfl rfl (nle rfl) (nle rfl) (nle rfl) (g_pur ?_) g_purX
    refine g_icmp_gt (tgt := 39) F dX2_checkFlight_32 (by decide) (fun c53 => ?_) (fun c53 => ?_)
    · rw [hon] at c53
      have d2 := hlk.1.mpr c53
      have hwv : mWhy f nc nh i = 2 := (if_neg d3).trans (if_pos d2)
      have hw : mWhy f nc nh i ≠ 0 := by rw [hwv]; decide
      have hdv : mDet f nc nh i = mLoad f nc (nI i) + 10 * f (12 + 4 * i) - mMax 0 (300 - 25 * f (13 + 4 * i)) := by rw [hon, hlk.2 d2]; exact (if_neg (by rw [hwv]; decide)).trans (if_pos hwv)
      refine g_iconst (v := 0) F dX2_checkFlight_39 rfl ?_
      refine g_iconst (v := 2) F dX2_checkFlight_40 rfl ?_
      refine g_aload_n F dX2_checkFlight_41 1 rfl rfl ?_
      refine g_callV F dX2_checkFlight_42 mi_X5_onRope q1189 q1190 q1191 gc_X5 b1 (ct_X5_onRope b1) rfl rfl (nle rfl) (nle rfl) (nle rfl) (g_pur ?_) g_purX
      refine g_aload_n F dX2_checkFlight_45 1 rfl rfl ?_
      refine g_callV F dX2_checkFlight_46 mi_X5_bears q1193 q1194 q1195 gc_X5 b1 (ct_X5_bears b1) rfl rfl (nle rfl) (nle rfl) (nle rfl) (g_pur ?_) g_purX
      refine g_isub F dX2_checkFlight_49 ?_
      refine g_callS (b := 2) (bs := 4) F dX2_checkFlight_50 mi_X10_check q1142 q1143 cx_X10_check rfl rfl (nle rfl) (nle rfl) (nle rfl) g_pXV (g_pXX (fun q71 h_72 x73 o74 => ?_))
      have x75 := gE.tr gE.rf x73.2
      exact gx_out F (fun x hx => (htb x hx).elim) gc_X10 x73.1 o74 (.inr ⟨_, rfl, hw, by rw [hwv, hdv]; exact x73.1, x75⟩)
    · rw [hon] at c53
      have d2 : ¬ 0 < mLacks f nc i := fun z => c53 (hlk.1.mp z)
      refine g_iconst (v := 1) F dX2_checkFlight_35 rfl ?_
      refine g_goto (tgt := 40) F dX2_checkFlight_36 (by decide) ?_
      refine g_iconst (v := 2) F dX2_checkFlight_40 rfl ?_
      refine g_aload_n F dX2_checkFlight_41 1 rfl rfl ?_
      refine g_callV F dX2_checkFlight_42 mi_X5_onRope q1189 q1190 q1191 gc_X5 b1 (ct_X5_onRope b1) rfl rfl (nle rfl) (nle rfl) (nle rfl) (g_pur ?_) g_purX
      refine g_aload_n F dX2_checkFlight_45 1 rfl rfl ?_
      refine g_callV F dX2_checkFlight_46 mi_X5_bears q1193 q1194 q1195 gc_X5 b1 (ct_X5_bears b1) rfl rfl (nle rfl) (nle rfl) (nle rfl) (g_pur ?_) g_purX
      refine g_isub F dX2_checkFlight_49 ?_
      refine g_callS F dX2_checkFlight_50 mi_X10_check q1142 q1143 (ct_X10_check (by decide)) rfl rfl (nle rfl) (nle rfl) (nle rfl) (g_purv ?_) g_purvX
      refine g_aload_n F dX2_checkFlight_53 0 rfl rfl ?_
      refine g_aload_n F dX2_checkFlight_54 1 rfl rfl ?_
      refine g_callV F dX2_checkFlight_55 mi_X5_floor q1198 q1199 q1200 gc_X5 b1 (ct_X5_floor b1) rfl rfl (nle rfl) (nle rfl) (nle rfl) (g_pur ?_) g_purX
      refine g_callV (b := 1) (bs := 8) F dX2_checkFlight_58 mi_X2_strength q1202 q1203 q1204 gc_X2 hT0 (ct_X2_strength hT) rfl rfl (nle rfl) (nle rfl) (nle rfl) (g_pO (fun v104 h_105 p106 => ?_)) g_pOX
      obtain ⟨rfl, p106⟩ := p106
      have x111 := gE.tr gE.rf p106
      refine g_eqs (st' := [.int (mStr f nh (mRem3 (nI i)))]) rfl ?_
      refine g_istore_n (lv' := [(2, .int (mStr f nh (mRem3 (nI i)))), (0, .ref (A 7 1)), (1, .ref (A 3 i))]) F dX2_checkFlight_61 rfl (by decide) rfl ?_
      refine g_iload_n F dX2_checkFlight_62 0 rfl rfl ?_
      refine g_aload_n F dX2_checkFlight_63 2 rfl rfl ?_
      refine g_callV F dX2_checkFlight_64 mi_X5_outBy_2 q1184 q1185 q1186 gc_X5 (x111 _ _ b1) (ct_X5_outBy_2 (x111 _ _ b1)) rfl rfl (nle rfl) (nle rfl) (nle rfl) (g_pur ?_) g_purX
      refine g_icmp_lt (tgt := 74) F dX2_checkFlight_67 (by decide) (fun c119 => ?_) (fun c119 => ?_)
      · rw [hof] at c119
        have hwv : mWhy f nc nh i = 4 := (if_neg d3).trans ((if_neg d2).trans (if_pos c119))
        have hw : mWhy f nc nh i ≠ 0 := by rw [hwv]; decide
        have hdv : mDet f nc nh i = mStr f nh (mRem3 (nI i)) := (if_neg (by rw [hwv]; decide)).trans (if_neg (by rw [hwv]; decide))
        refine g_iconst (v := 0) F dX2_checkFlight_74 rfl ?_
        refine g_iconst (v := 4) F dX2_checkFlight_75 rfl ?_
        refine g_iload_n F dX2_checkFlight_76 0 rfl rfl ?_
        refine g_callS (b := 0) (bs := 0) F dX2_checkFlight_77 mi_X10_check q1142 q1143 cx_X10_check rfl rfl (nle rfl) (nle rfl) (nle rfl) g_pXV (g_pXX (fun q123 h_124 x125 o126 => ?_))
        have x127 := gE.tr x111 x125.2
        exact gx_out F (fun x hx => (htb x hx).elim) gc_X10 x125.1 o126 (.inr ⟨_, rfl, hw, by rw [hwv, hdv]; exact x125.1, x127⟩)
      · rw [hof] at c119
        have hw : mWhy f nc nh i = 0 := (if_neg d3).trans ((if_neg d2).trans (if_neg c119))
        refine g_iconst (v := 1) F dX2_checkFlight_70 rfl ?_
        refine g_goto (tgt := 75) F dX2_checkFlight_71 (by decide) ?_
        refine g_iconst (v := 4) F dX2_checkFlight_75 rfl ?_
        refine g_iload_n F dX2_checkFlight_76 0 rfl rfl ?_
        refine g_callS F dX2_checkFlight_77 mi_X10_check q1142 q1143 (ct_X10_check (by decide)) rfl rfl (nle rfl) (nle rfl) (nle rfl) (g_purv ?_) g_purvX
        exact g_vret F dX2_checkFlight_80 (.inl ⟨_, rfl, rfl, hw, x111⟩)
set_option maxHeartbeats 4000000 in
set_option maxRecDepth 100000 in
theorem ct_X2_wouldRefuse {K : gK} {N : Nat → Prop} {h : AH} {A : Nat → Nat → Nat} {o : Nat → Nat} {f : Nat → Int32} {nb nc nh nq : Nat} (hT : th K N h A o f nb nc nh nq) {Y : Nat} (hI : xI f nb nc nh nq Y) (hY : Y ≤ 1000000) {i : Nat} (hi : i < nb) : gCt K yX2_wouldRefuse w_X2_wouldRefuse 8 171 3 12 h [.ref (A 7 1), .ref (A 3 i)] (pO (fun v h9 => v = some (.int (mWhy f nc nh i)) ∧ gE h h9)) := by
  refine g_methW pf_X2_wouldRefuse (nle rfl) (fun p e s m args below meth c F hnm htb => ?_)
  have F : gFix K p s m args meth c cX2_wouldRefuse 3 RX2 (some .int) := F
  refine g_eql (lv' := [(0, .ref (A 7 1)), (1, .ref (A 3 i))]) rfl ?_
  have hTt := hT
  obtain ⟨⟨hT0, hTN⟩, hRw, ⟨MD, hLs⟩, ⟨dz, hZ0, hZN, hZo, hZd⟩, ⟨hB, hBN⟩, ⟨hCu, hCN⟩, ⟨hHa, hHN⟩, hQu, hDj, hSg⟩ := hTt
  have hR0 : h (A 0 0) = some (.inr (3, [.ref (A 1 0), .int 8])) := hRw 0 (by decide)
  have hR1 : h (A 0 1) = some (.inr (3, [.ref (A 1 1), .int 12])) := hRw 1 (by decide)
  have hR2 : h (A 0 2) = some (.inr (3, [.ref (A 1 2), .int 6])) := hRw 2 (by decide)
  have hR3 : h (A 0 3) = some (.inr (3, [.ref (A 1 3), .int 12])) := hRw 3 (by decide)
  have hL0 : lsO K N h (A 1 0) (A 2 0) nb (A 3) (MD 0) := hLs 0 (by decide)
  have hL1 : lsO K N h (A 1 1) (A 2 1) nc (A 4) (MD 1) := hLs 1 (by decide)
  have hL2 : lsO K N h (A 1 2) (A 2 2) nh (A 5) (MD 2) := hLs 2 (by decide)
  have hL3 : lsO K N h (A 1 3) (A 2 3) nq (fun i => A 6 (o i)) (MD 3) := hLs 3 (by decide)
  have nb15 : nb ≤ 15 := hL0.2.2.1
  have nc15 : nc ≤ 15 := hL1.2.2.1
  have nh15 : nh ≤ 15 := hL2.2.2.1
  have nq15 : nq ≤ 15 := hL3.2.2.1
  have hI2 := hI
  obtain ⟨iC, iL, iBa, iWe, iDo, iCu, iMe⟩ := hI
  obtain ⟨f1, nb8, f2, nc12, f3, nh6, f4, nq12⟩ := iC
  have b1 : h (A 3 i) = some (.inr (9, [.int (nI i), .int (f (11 + 4 * i)), .int (mLoad f nc (nI i)), .int (mCnt f nc (nI i)), .int (f (12 + 4 * i)), .int (f (13 + 4 * i)), .int (f (14 + 4 * i))])) := hB _ hi
  refine g_aload_n F dX2_wouldRefuse_0 0 rfl rfl ?_
  refine g_aload_n F dX2_wouldRefuse_1 1 rfl rfl ?_
  refine g_callV (b := 0) (bs := 0) F dX2_wouldRefuse_2 mi_X2_checkFlight q1180 q1182 qs7 gc_X2 hT0 (ct_X2_checkFlight hT hI2 hY hi) rfl rfl (nle rfl) (nle rfl) (nle rfl) (g_pT (fun v2 h_3 p4 => ?_)) (g_pTX (fun q5 h_6 x7 o8 => ?_))
  · obtain ⟨rfl, hw, p4⟩ := p4
    have x9 := gE.tr gE.rf p4
    refine g_iconst (v := 0) F dX2_wouldRefuse_5 rfl ?_
    exact g_iret F dX2_wouldRefuse_6 (⟨_, rfl, by rw [hw], x9⟩)
  · obtain ⟨hw, x7⟩ := x7
    have x10 := gE.tr gE.rf x7.2
    refine gx_catch F [] ⟨0, 6, 7, 103⟩ [] (by rw [htb]; rfl) (fun z hz => absurd hz (List.not_mem_nil)) (by decide) (by decide) q329 gFit.rf gc_X10 x7.1 o8 ?_
    refine g_astore_n (lv' := [(2, .ref q5), (0, .ref (A 7 1)), (1, .ref (A 3 i))]) F dX2_wouldRefuse_7 rfl (by decide) rfl ?_
    refine g_aload_n F dX2_wouldRefuse_8 0 rfl rfl ?_
    refine gf_X2_260_X10 (v := .int (mWhy f nc nh i)) F dX2_wouldRefuse_9 x7.1 rfl ?_
    exact g_iret F dX2_wouldRefuse_12 (⟨_, rfl, rfl, x10⟩)
set_option maxHeartbeats 4000000 in
set_option maxRecDepth 100000 in
theorem ct_X2_outOfBalance {K : gK} {N : Nat → Prop} {h : AH} {A : Nat → Nat → Nat} {o : Nat → Nat} {f : Nat → Int32} {nb nc nh nq : Nat} (hT : th K N h A o f nb nc nh nq) : gCt K yX2_outOfBalance w_X2_outOfBalance 5 104 1 2 h [.ref (A 7 1)] (pO (fun v h9 => v = some (.int (mUnb f nc nb)) ∧ gE h h9)) := by
  refine g_meth pf_X2_outOfBalance (nle rfl) (fun p e s m args below meth c F hnm htb => ?_)
  have F : gFix K p s m args meth c cX2_outOfBalance 4 RX2 (some .int) := F
  refine g_eql (lv' := [(0, .ref (A 7 1))]) rfl ?_
  have hTt := hT
  obtain ⟨⟨hT0, hTN⟩, hRw, ⟨MD, hLs⟩, ⟨dz, hZ0, hZN, hZo, hZd⟩, ⟨hB, hBN⟩, ⟨hCu, hCN⟩, ⟨hHa, hHN⟩, hQu, hDj, hSg⟩ := hTt
  have hR0 : h (A 0 0) = some (.inr (3, [.ref (A 1 0), .int 8])) := hRw 0 (by decide)
  have hR1 : h (A 0 1) = some (.inr (3, [.ref (A 1 1), .int 12])) := hRw 1 (by decide)
  have hR2 : h (A 0 2) = some (.inr (3, [.ref (A 1 2), .int 6])) := hRw 2 (by decide)
  have hR3 : h (A 0 3) = some (.inr (3, [.ref (A 1 3), .int 12])) := hRw 3 (by decide)
  have hL0 : lsO K N h (A 1 0) (A 2 0) nb (A 3) (MD 0) := hLs 0 (by decide)
  have hL1 : lsO K N h (A 1 1) (A 2 1) nc (A 4) (MD 1) := hLs 1 (by decide)
  have hL2 : lsO K N h (A 1 2) (A 2 2) nh (A 5) (MD 2) := hLs 2 (by decide)
  have hL3 : lsO K N h (A 1 3) (A 2 3) nq (fun i => A 6 (o i)) (MD 3) := hLs 3 (by decide)
  have nb15 : nb ≤ 15 := hL0.2.2.1
  have nc15 : nc ≤ 15 := hL1.2.2.1
  have nh15 : nh ≤ 15 := hL2.2.2.1
  have nq15 : nq ≤ 15 := hL3.2.2.1
  refine g_iconst (v := 0) F dX2_outOfBalance_0 rfl ?_
  refine g_istore_n (lv' := [(1, .int 0), (0, .ref (A 7 1))]) F dX2_outOfBalance_1 rfl (by decide) rfl ?_
  refine g_aload_n F dX2_outOfBalance_2 1 rfl rfl ?_
  refine gf_X2_14_X2 (v := .ref (A 0 0)) F dX2_outOfBalance_3 hT0 rfl ?_
  refine g_callV (b := 0) (bs := 0) F dX2_outOfBalance_6 mi_X3_iterator q743 q744 q745 gc_X3 hR0 ct_X3_iterator rfl rfl (nle rfl) (nle rfl) (nle rfl) (g_pO (fun v1 h_2 p3 => ?_)) g_pOX
  obtain ⟨q8, rfl, hn_e9, ho_e9, e9⟩ := p3
  have w10 := gE.no gE.rf hn_e9
  have d11 := gnew hn_e9 (hL0).1
  have d12 := gnew hn_e9 (hL1).1
  have d13 := gnew hn_e9 (hL2).1
  have d14 := gnew hn_e9 (hL3).1
  have x15 := gE.new1 gE.rf e9 hn_e9
  have f16 := gu_a e9
  refine g_eqs (st' := [.ref q8]) rfl ?_
  refine g_astore_n (lv' := [(2, .ref q8), (1, .int 0), (0, .ref (A 7 1))]) F dX2_outOfBalance_9 rfl (by decide) rfl ?_
  have lp10 : ∀ k, k ≤ nb → ∀ (h9 : AH), (gE h h9) → (h9 q8 = some (.inr (13, [.int (nI k), .ref (A 0 0)]))) → G K p e s m args below meth c (gRm 5 104 1 2) 4 (pO (fun v h9 => v = some (.int (mUnb f nc nb)) ∧ gE h h9)) h9 (0) (0) 10 [(0, .ref (A 7 1)), (1, .int (mSum (fun k => if f 5 < mOff f nc k (nI k) then 1 else 0) k)), (2, .ref q8)] [] := by
    refine gloop nb (fun k hk ih => ?_)
    intro h9 hE9 hs9
    refine g_aload_n F dX2_outOfBalance_10 2 rfl rfl ?_
    refine g_callF (x := ⟨"java/util/Iterator", "hasNext", "()Z"⟩) F dX2_outOfBalance_11 mi_X13_hasNext rfl q761 0 rfl q372 q370 gc_X13 hs9 (ct_X13_hasNext (k := k) (hE9 _ _ hR0) (lsO.up hE9 hL0) hs9 (by omega)) rfl rfl (nle rfl) (nle rfl) (nle rfl) (g_pur ?_) g_purX
    refine g_if_eq (tgt := 51) F dX2_outOfBalance_16 (by decide) (fun c24 => ?_) (fun c24 => ?_)
    · have hkn : nb = k := by have : ¬ k < nb := (fun z => by simp [z] at c24); omega
      subst hkn
      refine g_iload_n F dX2_outOfBalance_51 1 rfl rfl ?_
      exact g_iret F dX2_outOfBalance_52 (⟨_, rfl, rfl, hE9⟩)
    · have hlt : k < nb := Classical.byContradiction (fun z => c24 (by simp [z]))
      refine g_aload_n F dX2_outOfBalance_19 2 rfl rfl ?_
      refine g_callF (x := ⟨"java/util/Iterator", "next", "()Ljava/lang/Object;"⟩) F dX2_outOfBalance_20 mi_X13_next rfl q763 3 rfl q394 q392 gc_X13 hs9 (ct_X13_next (hE9 _ _ hR0) (lsO.up hE9 hL0) hs9 ho_e9 hlt (fun i hi => gNum_b (hE9 _ _ (hB _ hi)))) rfl rfl (nle rfl) (nle rfl) (nle rfl) (g_pur ?_) g_purX
      refine g_gen (fun h_32 e33 => ?_)
      have x34 := gE.wr1 hE9 e33 w10
      have f35 := gu_a e33
      have b36 : h (A 3 k) = some (.inr (9, [.int (nI k), .int (f (11 + 4 * k)), .int (mLoad f nc (nI k)), .int (mCnt f nc (nI k)), .int (f (12 + 4 * k)), .int (f (13 + 4 * k)), .int (f (14 + 4 * k))])) := hB _ hlt
      refine g_eqs (st' := [.ref (A 3 k)]) rfl ?_
      refine g_castE F q1179 gc_X5 (x34 _ _ b36) dX2_outOfBalance_25 ?_
      refine g_astore_n (lv' := [(3, .ref (A 3 k)), (0, .ref (A 7 1)), (1, .int (mSum (fun k => if f 5 < mOff f nc k (nI k) then 1 else 0) k)), (2, .ref q8)]) F dX2_outOfBalance_28 rfl (by decide) rfl ?_
      refine g_iload_n F dX2_outOfBalance_29 2 rfl rfl ?_
      refine g_aload_n F dX2_outOfBalance_30 0 rfl rfl ?_
      refine g_callV F dX2_outOfBalance_31 mi_X5_outBy_2 q1184 q1185 q1186 gc_X5 (x34 _ _ b36) (ct_X5_outBy_2 (x34 _ _ b36)) rfl rfl (nle rfl) (nle rfl) (nle rfl) (g_pur ?_) g_purX
      refine g_aload_n F dX2_outOfBalance_34 1 rfl rfl ?_
      refine gf_X2_33_X2 (v := .int (f 5)) F dX2_outOfBalance_35 (x34 _ _ hT0) rfl ?_
      refine g_icmp_le (tgt := 45) F dX2_outOfBalance_38 (by decide) (fun c44 => ?_) (fun c44 => ?_)
      · have d1 : ¬ f 5 < mOff f nc k (nI k) := by have hof : mAbs (mLoad f nc (nI k) + 0 - 10 * f (12 + 4 * k)) = mOff f nc k (nI k) := (by rw [Int32.add_zero]; rfl); rw [hof] at c44; exact Int32.not_lt.mpr c44
        refine g_iconst (v := 0) F dX2_outOfBalance_45 rfl ?_
        refine g_iadd F dX2_outOfBalance_46 ?_
        refine g_istore_n (lv' := [(1, .int ((mSum (fun k => if f 5 < mOff f nc k (nI k) then 1 else 0) k) + 0)), (3, .ref (A 3 k)), (0, .ref (A 7 1)), (2, .ref q8)]) F dX2_outOfBalance_47 rfl (by decide) rfl ?_
        refine g_goto (tgt := 10) F dX2_outOfBalance_48 (by decide) ?_
        refine g_lv (lv' := [(0, .ref (A 7 1)), (1, .int ((mSum (fun k => if f 5 < mOff f nc k (nI k) then 1 else 0) k) + 0)), (2, .ref q8)]) [2, 0, 3] rfl ?_
        exact g_eql (lv' := [(0, .ref (A 7 1)), (1, .int (mSum (fun k => if f 5 < mOff f nc k (nI k) then 1 else 0) (k + 1))), (2, .ref q8)]) (by simp only [mSum_s, d1, if_true, if_false]) (ih hlt h_32 x34 f35)
      · have d1 : f 5 < mOff f nc k (nI k) := by have hof : mAbs (mLoad f nc (nI k) + 0 - 10 * f (12 + 4 * k)) = mOff f nc k (nI k) := (by rw [Int32.add_zero]; rfl); rw [hof] at c44; exact Int32.not_le.mp c44
        refine g_iconst (v := 1) F dX2_outOfBalance_41 rfl ?_
        refine g_goto (tgt := 46) F dX2_outOfBalance_42 (by decide) ?_
        refine g_iadd F dX2_outOfBalance_46 ?_
        refine g_istore_n (lv' := [(1, .int ((mSum (fun k => if f 5 < mOff f nc k (nI k) then 1 else 0) k) + 1)), (3, .ref (A 3 k)), (0, .ref (A 7 1)), (2, .ref q8)]) F dX2_outOfBalance_47 rfl (by decide) rfl ?_
        refine g_goto (tgt := 10) F dX2_outOfBalance_48 (by decide) ?_
        refine g_lv (lv' := [(0, .ref (A 7 1)), (1, .int ((mSum (fun k => if f 5 < mOff f nc k (nI k) then 1 else 0) k) + 1)), (2, .ref q8)]) [2, 0, 3] rfl ?_
        exact g_eql (lv' := [(0, .ref (A 7 1)), (1, .int (mSum (fun k => if f 5 < mOff f nc k (nI k) then 1 else 0) (k + 1))), (2, .ref q8)]) (by simp only [mSum_s, d1, if_true, if_false]) (ih hlt h_32 x34 f35)
  refine g_lv (lv' := [(0, .ref (A 7 1)), (1, .int 0), (2, .ref q8)]) [2, 1, 0] rfl ?_
  exact lp10 0 (Nat.zero_le _) h_2 x15 f16
