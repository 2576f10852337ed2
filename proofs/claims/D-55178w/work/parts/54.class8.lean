/-! ===== The theatre: questions (written by tools/class8.py) ===== -/
set_option maxHeartbeats 4000000 in
set_option maxRecDepth 100000 in
theorem ct_X2_bar {K : gK} {N : Nat → Prop} {h : AH} {A : Nat → Nat → Nat} {o : Nat → Nat} {f : Nat → Int32} {nb nc nh nq : Nat} (hT : th K N h A o f nb nc nh nq) {i : Nat} (hi : i < nb) : gCt K yX2_bar w_X2_bar 5 106 0 0 h [.ref (A 7 1), .int (nI i)] (pR (.ref (A 3 i)) h) := by
  refine g_meth pf_X2_bar (nle rfl) (fun p e s m args below meth c F hnm htb => ?_)
  have F : gFix K p s m args meth c cX2_bar 2 RX2 (some (.object "CurtainRiggers$Bar")) := F
  refine g_eql (lv' := [(0, .ref (A 7 1)), (1, .int (nI i))]) rfl ?_
  have hTt := hT
  obtain ⟨⟨hT0, hTN⟩, hRw, ⟨MD, hLs⟩, ⟨dz, hZ0, hZN, hZo, hZd⟩, ⟨hB, hBN⟩, ⟨hCu, hCN⟩, ⟨hHa, hHN⟩, hQu, hDj, hSg⟩ := hTt
  have hR0 : h (A 0 0) = some (.inr (3, [.ref (A 1 0), .int 8])) := hRw 0 (by decide)
  have hR1 : h (A 0 1) = some (.inr (3, [.ref (A 1 1), .int 12])) := hRw 1 (by decide)
  have hR2 : h (A 0 2) = some (.inr (3, [.ref (A 1 2), .int 6])) := hRw 2 (by decide)
  have hR3 : h (A 0 3) = some (.inr (3, [.ref (A 1 3), .int 12])) := hRw 3 (by decide)
  have hL0 : lsO K N h (A 1 0) (A 2 0) nb (A 3) (MD 0) := hLs 0 (by decide)
  have hL1 : lsO K N h (A 1 1) (A 2 1) nc (A 4) (MD 1) := hLs 1 (by decide)
  have hL2 : lsO K N h (A 1 2) (A 2 2) nh (A 5) (MD 2) := hLs 2 (by decide)
  have hL3 : lsO K N h (A 1 3) (A 2 3) nq (fun i => A 6 (o i)) (MD 3) := hLs 3 (by decide)
  have nb15 : nb ≤ 15 := hL0.2.2.1
  have nc15 : nc ≤ 15 := hL1.2.2.1
  have nh15 : nh ≤ 15 := hL2.2.2.1
  have nq15 : nq ≤ 15 := hL3.2.2.1
  refine g_aload_n F dX2_bar_0 0 rfl rfl ?_
  refine gf_X2_14_X2 (v := .ref (A 0 0)) F dX2_bar_1 hT0 rfl ?_
  refine g_iload_n F dX2_bar_4 1 rfl rfl ?_
  refine g_callS F dX2_bar_5 mi_X9_checked q1455 q1456 (ct_X9_checked hR0 hL0 (fun i hi => gNum_b (hB i hi)) hi) rfl rfl (nle rfl) (nle rfl) (nle rfl) (g_pur ?_) g_purX
  have b8 : h (A 3 i) = some (.inr (9, [.int (nI i), .int (f (11 + 4 * i)), .int (mLoad f nc (nI i)), .int (mCnt f nc (nI i)), .int (f (12 + 4 * i)), .int (f (13 + 4 * i)), .int (f (14 + 4 * i))])) := hB _ hi
  refine g_castE F q1179 gc_X5 b8 dX2_bar_8 ?_
  exact g_aret F dX2_bar_11 (Or.inl ⟨_, rfl⟩) (Or.inr ⟨_, rfl⟩) (⟨rfl, rfl⟩)
set_option maxHeartbeats 4000000 in
set_option maxRecDepth 100000 in
theorem cx_X2_bar {K : gK} {N : Nat → Prop} {h : AH} {A : Nat → Nat → Nat} {o : Nat → Nat} {f : Nat → Int32} {nb nc nh nq : Nat} (hT : th K N h A o f nb nc nh nq) {x : Int32} (hx : mIn x 0 (nI nb - 1) = 0) : gCt K yX2_bar w_X2_bar 8 122 1 6 h [.ref (A 7 1), .int x] (pX (tX h 23 [])) := by
  refine g_meth pf_X2_bar (nle rfl) (fun p e s m args below meth c F hnm htb => ?_)
  have F : gFix K p s m args meth c cX2_bar 2 RX2 (some (.object "CurtainRiggers$Bar")) := F
  refine g_eql (lv' := [(0, .ref (A 7 1)), (1, .int x)]) rfl ?_
  have hTt := hT
  obtain ⟨⟨hT0, hTN⟩, hRw, ⟨MD, hLs⟩, ⟨dz, hZ0, hZN, hZo, hZd⟩, ⟨hB, hBN⟩, ⟨hCu, hCN⟩, ⟨hHa, hHN⟩, hQu, hDj, hSg⟩ := hTt
  have hR0 : h (A 0 0) = some (.inr (3, [.ref (A 1 0), .int 8])) := hRw 0 (by decide)
  have hR1 : h (A 0 1) = some (.inr (3, [.ref (A 1 1), .int 12])) := hRw 1 (by decide)
  have hR2 : h (A 0 2) = some (.inr (3, [.ref (A 1 2), .int 6])) := hRw 2 (by decide)
  have hR3 : h (A 0 3) = some (.inr (3, [.ref (A 1 3), .int 12])) := hRw 3 (by decide)
  have hL0 : lsO K N h (A 1 0) (A 2 0) nb (A 3) (MD 0) := hLs 0 (by decide)
  have hL1 : lsO K N h (A 1 1) (A 2 1) nc (A 4) (MD 1) := hLs 1 (by decide)
  have hL2 : lsO K N h (A 1 2) (A 2 2) nh (A 5) (MD 2) := hLs 2 (by decide)
  have hL3 : lsO K N h (A 1 3) (A 2 3) nq (fun i => A 6 (o i)) (MD 3) := hLs 3 (by decide)
  have nb15 : nb ≤ 15 := hL0.2.2.1
  have nc15 : nc ≤ 15 := hL1.2.2.1
  have nh15 : nh ≤ 15 := hL2.2.2.1
  have nq15 : nq ≤ 15 := hL3.2.2.1
  refine g_aload_n F dX2_bar_0 0 rfl rfl ?_
  refine gf_X2_14_X2 (v := .ref (A 0 0)) F dX2_bar_1 hT0 rfl ?_
  refine g_iload_n F dX2_bar_4 1 rfl rfl ?_
  refine g_callS (b := 0) (bs := 0) F dX2_bar_5 mi_X9_checked q1455 q1456 (cx_X9_checked hR0 hL0 hx) rfl rfl (nle rfl) (nle rfl) (nle rfl) g_pXV (g_pXX (fun q4 h_5 x6 o7 => ?_))
  have x8 := gE.tr gE.rf x6.2
  exact gx_out F (fun x hx => (htb x hx).elim) gc_J21 x6.1 o7 (⟨_, rfl, x6.1, x8⟩)
set_option maxHeartbeats 4000000 in
set_option maxRecDepth 100000 in
theorem ct_X2_curtain {K : gK} {N : Nat → Prop} {h : AH} {A : Nat → Nat → Nat} {o : Nat → Nat} {f : Nat → Int32} {nb nc nh nq : Nat} (hT : th K N h A o f nb nc nh nq) {i : Nat} (hi : i < nc) : gCt K yX2_curtain w_X2_curtain 5 106 0 0 h [.ref (A 7 1), .int (nI i)] (pR (.ref (A 4 i)) h) := by
  refine g_meth pf_X2_curtain (nle rfl) (fun p e s m args below meth c F hnm htb => ?_)
  have F : gFix K p s m args meth c cX2_curtain 2 RX2 (some (.object "CurtainRiggers$Curtain")) := F
  refine g_eql (lv' := [(0, .ref (A 7 1)), (1, .int (nI i))]) rfl ?_
  have hTt := hT
  obtain ⟨⟨hT0, hTN⟩, hRw, ⟨MD, hLs⟩, ⟨dz, hZ0, hZN, hZo, hZd⟩, ⟨hB, hBN⟩, ⟨hCu, hCN⟩, ⟨hHa, hHN⟩, hQu, hDj, hSg⟩ := hTt
  have hR0 : h (A 0 0) = some (.inr (3, [.ref (A 1 0), .int 8])) := hRw 0 (by decide)
  have hR1 : h (A 0 1) = some (.inr (3, [.ref (A 1 1), .int 12])) := hRw 1 (by decide)
  have hR2 : h (A 0 2) = some (.inr (3, [.ref (A 1 2), .int 6])) := hRw 2 (by decide)
  have hR3 : h (A 0 3) = some (.inr (3, [.ref (A 1 3), .int 12])) := hRw 3 (by decide)
  have hL0 : lsO K N h (A 1 0) (A 2 0) nb (A 3) (MD 0) := hLs 0 (by decide)
  have hL1 : lsO K N h (A 1 1) (A 2 1) nc (A 4) (MD 1) := hLs 1 (by decide)
  have hL2 : lsO K N h (A 1 2) (A 2 2) nh (A 5) (MD 2) := hLs 2 (by decide)
  have hL3 : lsO K N h (A 1 3) (A 2 3) nq (fun i => A 6 (o i)) (MD 3) := hLs 3 (by decide)
  have nb15 : nb ≤ 15 := hL0.2.2.1
  have nc15 : nc ≤ 15 := hL1.2.2.1
  have nh15 : nh ≤ 15 := hL2.2.2.1
  have nq15 : nq ≤ 15 := hL3.2.2.1
  refine g_aload_n F dX2_curtain_0 0 rfl rfl ?_
  refine gf_X2_20_X2 (v := .ref (A 0 1)) F dX2_curtain_1 hT0 rfl ?_
  refine g_iload_n F dX2_curtain_4 1 rfl rfl ?_
  refine g_callS F dX2_curtain_5 mi_X9_checked q1455 q1456 (ct_X9_checked hR1 hL1 (fun i hi => gNum_c (hCu i hi)) hi) rfl rfl (nle rfl) (nle rfl) (nle rfl) (g_pur ?_) g_purX
  have b8 : h (A 4 i) = some (.inr (10, [.int (nI i), .int (f (43 + 2 * i)), .int (f (44 + 2 * i))])) := hCu _ hi
  refine g_castE F q1471 gc_X6 b8 dX2_curtain_8 ?_
  exact g_aret F dX2_curtain_11 (Or.inl ⟨_, rfl⟩) (Or.inr ⟨_, rfl⟩) (⟨rfl, rfl⟩)
set_option maxHeartbeats 4000000 in
set_option maxRecDepth 100000 in
theorem cx_X2_curtain {K : gK} {N : Nat → Prop} {h : AH} {A : Nat → Nat → Nat} {o : Nat → Nat} {f : Nat → Int32} {nb nc nh nq : Nat} (hT : th K N h A o f nb nc nh nq) {x : Int32} (hx : mIn x 0 (nI nc - 1) = 0) : gCt K yX2_curtain w_X2_curtain 8 122 1 6 h [.ref (A 7 1), .int x] (pX (tX h 23 [])) := by
  refine g_meth pf_X2_curtain (nle rfl) (fun p e s m args below meth c F hnm htb => ?_)
  have F : gFix K p s m args meth c cX2_curtain 2 RX2 (some (.object "CurtainRiggers$Curtain")) := F
  refine g_eql (lv' := [(0, .ref (A 7 1)), (1, .int x)]) rfl ?_
  have hTt := hT
  obtain ⟨⟨hT0, hTN⟩, hRw, ⟨MD, hLs⟩, ⟨dz, hZ0, hZN, hZo, hZd⟩, ⟨hB, hBN⟩, ⟨hCu, hCN⟩, ⟨hHa, hHN⟩, hQu, hDj, hSg⟩ := hTt
  have hR0 : h (A 0 0) = some (.inr (3, [.ref (A 1 0), .int 8])) := hRw 0 (by decide)
  have hR1 : h (A 0 1) = some (.inr (3, [.ref (A 1 1), .int 12])) := hRw 1 (by decide)
  have hR2 : h (A 0 2) = some (.inr (3, [.ref (A 1 2), .int 6])) := hRw 2 (by decide)
  have hR3 : h (A 0 3) = some (.inr (3, [.ref (A 1 3), .int 12])) := hRw 3 (by decide)
  have hL0 : lsO K N h (A 1 0) (A 2 0) nb (A 3) (MD 0) := hLs 0 (by decide)
  have hL1 : lsO K N h (A 1 1) (A 2 1) nc (A 4) (MD 1) := hLs 1 (by decide)
  have hL2 : lsO K N h (A 1 2) (A 2 2) nh (A 5) (MD 2) := hLs 2 (by decide)
  have hL3 : lsO K N h (A 1 3) (A 2 3) nq (fun i => A 6 (o i)) (MD 3) := hLs 3 (by decide)
  have nb15 : nb ≤ 15 := hL0.2.2.1
  have nc15 : nc ≤ 15 := hL1.2.2.1
  have nh15 : nh ≤ 15 := hL2.2.2.1
  have nq15 : nq ≤ 15 := hL3.2.2.1
  refine g_aload_n F dX2_curtain_0 0 rfl rfl ?_
  refine gf_X2_20_X2 (v := .ref (A 0 1)) F dX2_curtain_1 hT0 rfl ?_
  refine g_iload_n F dX2_curtain_4 1 rfl rfl ?_
  refine g_callS (b := 0) (bs := 0) F dX2_curtain_5 mi_X9_checked q1455 q1456 (cx_X9_checked hR1 hL1 hx) rfl rfl (nle rfl) (nle rfl) (nle rfl) g_pXV (g_pXX (fun q4 h_5 x6 o7 => ?_))
  have x8 := gE.tr gE.rf x6.2
  exact gx_out F (fun x hx => (htb x hx).elim) gc_J21 x6.1 o7 (⟨_, rfl, x6.1, x8⟩)
set_option maxHeartbeats 4000000 in
set_option maxRecDepth 100000 in
theorem ct_X2_hand {K : gK} {N : Nat → Prop} {h : AH} {A : Nat → Nat → Nat} {o : Nat → Nat} {f : Nat → Int32} {nb nc nh nq : Nat} (hT : th K N h A o f nb nc nh nq) {i : Nat} (hi : i < nh) : gCt K yX2_hand w_X2_hand 5 106 0 0 h [.ref (A 7 1), .int (nI i)] (pR (.ref (A 5 i)) h) := by
  refine g_meth pf_X2_hand (nle rfl) (fun p e s m args below meth c F hnm htb => ?_)
  have F : gFix K p s m args meth c cX2_hand 2 RX2 (some (.object "CurtainRiggers$Hand")) := F
  refine g_eql (lv' := [(0, .ref (A 7 1)), (1, .int (nI i))]) rfl ?_
  have hTt := hT
  obtain ⟨⟨hT0, hTN⟩, hRw, ⟨MD, hLs⟩, ⟨dz, hZ0, hZN, hZo, hZd⟩, ⟨hB, hBN⟩, ⟨hCu, hCN⟩, ⟨hHa, hHN⟩, hQu, hDj, hSg⟩ := hTt
  have hR0 : h (A 0 0) = some (.inr (3, [.ref (A 1 0), .int 8])) := hRw 0 (by decide)
  have hR1 : h (A 0 1) = some (.inr (3, [.ref (A 1 1), .int 12])) := hRw 1 (by decide)
  have hR2 : h (A 0 2) = some (.inr (3, [.ref (A 1 2), .int 6])) := hRw 2 (by decide)
  have hR3 : h (A 0 3) = some (.inr (3, [.ref (A 1 3), .int 12])) := hRw 3 (by decide)
  have hL0 : lsO K N h (A 1 0) (A 2 0) nb (A 3) (MD 0) := hLs 0 (by decide)
  have hL1 : lsO K N h (A 1 1) (A 2 1) nc (A 4) (MD 1) := hLs 1 (by decide)
  have hL2 : lsO K N h (A 1 2) (A 2 2) nh (A 5) (MD 2) := hLs 2 (by decide)
  have hL3 : lsO K N h (A 1 3) (A 2 3) nq (fun i => A 6 (o i)) (MD 3) := hLs 3 (by decide)
  have nb15 : nb ≤ 15 := hL0.2.2.1
  have nc15 : nc ≤ 15 := hL1.2.2.1
  have nh15 : nh ≤ 15 := hL2.2.2.1
  have nq15 : nq ≤ 15 := hL3.2.2.1
  refine g_aload_n F dX2_hand_0 0 rfl rfl ?_
  refine gf_X2_23_X2 (v := .ref (A 0 2)) F dX2_hand_1 hT0 rfl ?_
  refine g_iload_n F dX2_hand_4 1 rfl rfl ?_
  refine g_callS F dX2_hand_5 mi_X9_checked q1455 q1456 (ct_X9_checked hR2 hL2 (fun i hi => gNum_h (hHa i hi)) hi) rfl rfl (nle rfl) (nle rfl) (nle rfl) (g_pur ?_) g_purX
  have b8 : h (A 5 i) = some (.inr (11, [.int (nI i), .int (f (68 + 2 * i)), .int (f (67 + 2 * i))])) := hHa _ hi
  refine g_castE F q1581 gc_X7 b8 dX2_hand_8 ?_
  exact g_aret F dX2_hand_11 (Or.inl ⟨_, rfl⟩) (Or.inr ⟨_, rfl⟩) (⟨rfl, rfl⟩)
set_option maxHeartbeats 4000000 in
set_option maxRecDepth 100000 in
theorem cx_X2_hand {K : gK} {N : Nat → Prop} {h : AH} {A : Nat → Nat → Nat} {o : Nat → Nat} {f : Nat → Int32} {nb nc nh nq : Nat} (hT : th K N h A o f nb nc nh nq) {x : Int32} (hx : mIn x 0 (nI nh - 1) = 0) : gCt K yX2_hand w_X2_hand 8 122 1 6 h [.ref (A 7 1), .int x] (pX (tX h 23 [])) := by
  refine g_meth pf_X2_hand (nle rfl) (fun p e s m args below meth c F hnm htb => ?_)
  have F : gFix K p s m args meth c cX2_hand 2 RX2 (some (.object "CurtainRiggers$Hand")) := F
  refine g_eql (lv' := [(0, .ref (A 7 1)), (1, .int x)]) rfl ?_
  have hTt := hT
  obtain ⟨⟨hT0, hTN⟩, hRw, ⟨MD, hLs⟩, ⟨dz, hZ0, hZN, hZo, hZd⟩, ⟨hB, hBN⟩, ⟨hCu, hCN⟩, ⟨hHa, hHN⟩, hQu, hDj, hSg⟩ := hTt
  have hR0 : h (A 0 0) = some (.inr (3, [.ref (A 1 0), .int 8])) := hRw 0 (by decide)
  have hR1 : h (A 0 1) = some (.inr (3, [.ref (A 1 1), .int 12])) := hRw 1 (by decide)
  have hR2 : h (A 0 2) = some (.inr (3, [.ref (A 1 2), .int 6])) := hRw 2 (by decide)
  have hR3 : h (A 0 3) = some (.inr (3, [.ref (A 1 3), .int 12])) := hRw 3 (by decide)
  have hL0 : lsO K N h (A 1 0) (A 2 0) nb (A 3) (MD 0) := hLs 0 (by decide)
  have hL1 : lsO K N h (A 1 1) (A 2 1) nc (A 4) (MD 1) := hLs 1 (by decide)
  have hL2 : lsO K N h (A 1 2) (A 2 2) nh (A 5) (MD 2) := hLs 2 (by decide)
  have hL3 : lsO K N h (A 1 3) (A 2 3) nq (fun i => A 6 (o i)) (MD 3) := hLs 3 (by decide)
  have nb15 : nb ≤ 15 := hL0.2.2.1
  have nc15 : nc ≤ 15 := hL1.2.2.1
  have nh15 : nh ≤ 15 := hL2.2.2.1
  have nq15 : nq ≤ 15 := hL3.2.2.1
  refine g_aload_n F dX2_hand_0 0 rfl rfl ?_
  refine gf_X2_23_X2 (v := .ref (A 0 2)) F dX2_hand_1 hT0 rfl ?_
  refine g_iload_n F dX2_hand_4 1 rfl rfl ?_
  refine g_callS (b := 0) (bs := 0) F dX2_hand_5 mi_X9_checked q1455 q1456 (cx_X9_checked hR2 hL2 hx) rfl rfl (nle rfl) (nle rfl) (nle rfl) g_pXV (g_pXX (fun q4 h_5 x6 o7 => ?_))
  have x8 := gE.tr gE.rf x6.2
  exact gx_out F (fun x hx => (htb x hx).elim) gc_J21 x6.1 o7 (⟨_, rfl, x6.1, x8⟩)
