/-! ===== The theatre: copied (written by tools/class20.py) ===== -/
set_option maxHeartbeats 4000000 in
set_option maxRecDepth 100000 in
theorem ct_X2_copy {K : gK} {N : Nat → Prop} {h : AH} {A : Nat → Nat → Nat} {o : Nat → Nat} {f : Nat → Int32} {nb nc nh nq : Nat} (hT : th K N h A o f nb nc nh nq) {Y : Nat} (hI : xI f nb nc nh nq Y) (hKA : gKA K) : gCt K yX2_copy w_X2_copy 8 182 86 752 h [.ref (A 7 1)] (pO (cpE K h f)) := by
  refine g_meth pf_X2_copy (nle rfl) (fun p e s m args below meth c F hnm htb => ?_)
  have F : gFix K p s m args meth c cX2_copy 2 RX2 (some (.object "CurtainRiggers$Theatre")) := F
  refine g_eql (lv' := [(0, .ref (A 7 1))]) rfl ?_
  have hTt := hT
  obtain ⟨⟨hT0, hTN⟩, hRw, ⟨MD, hLs⟩, ⟨dz, hZ0, hZN, hZo, hZd⟩, ⟨hB, hBN⟩, ⟨hCu, hCN⟩, ⟨hHa, hHN⟩, hQu, hDj, hSg⟩ := hTt
  have hR0 : h (A 0 0) = some (.inr (3, [.ref (A 1 0), .int 8])) := hRw 0 (by decide)
  have hR1 : h (A 0 1) = some (.inr (3, [.ref (A 1 1), .int 12])) := hRw 1 (by decide)
  have hR2 : h (A 0 2) = some (.inr (3, [.ref (A 1 2), .int 6])) := hRw 2 (by decide)
  have hR3 : h (A 0 3) = some (.inr (3, [.ref (A 1 3), .int 12])) := hRw 3 (by decide)
  have hL0 : lsO K N h (A 1 0) (A 2 0) nb (A 3) (MD 0) := hLs 0 (by decide)
  have hL1 : lsO K N h (A 1 1) (A 2 1) nc (A 4) (MD 1) := hLs 1 (by decide)
  have hL2 : lsO K N h (A 1 2) (A 2 2) nh (A 5) (MD 2) := hLs 2 (by decide)
  have hL3 : lsO K N h (A 1 3) (A 2 3) nq (fun i => A 6 (o i)) (MD 3) := hLs 3 (by decide)
  have nb15 : nb ≤ 15 := hL0.2.2.1
  have nc15 : nc ≤ 15 := hL1.2.2.1
  have nh15 : nh ≤ 15 := hL2.2.2.1
  have nq15 : nq ≤ 15 := hL3.2.2.1
  have hI2 := hI
  obtain ⟨iC, iL, iBa, iWe, iDo, iCu, iMe⟩ := hI
  obtain ⟨f1, nb8, f2, nc12, f3, nh6, f4, nq12⟩ := iC
  have hC : mC f nb nc nh nq := ⟨f1, nb8, f2, nc12, f3, nh6, f4, nq12⟩
  refine g_new (fs := [.null, .null, .null, .null, .null, .int 0, .int 0, .int 0, .int 0, .int 0, .int 0, .int 0]) (b := 85) (bs := 740) F in_X2 tyX2 tyX2_ok q334 q127 q70 gc_X2 nf_X2 dX2_copy_0 (fun q1 h_2 hn_e3 ho_e3 e3 => ?_)
  have w4 := gE.no gE.rf hn_e3
  have d5 := gnew hn_e3 (hL0).1
  have d6 := gnew hn_e3 (hL1).1
  have d7 := gnew hn_e3 (hL2).1
  have d8 := gnew hn_e3 (hL3).1
  have x9 := gE.new1 gE.rf e3 hn_e3
  have f10 := gu_a e3
  refine g_dup F dX2_copy_3 rfl ?_
  refine g_callI (b := 76) (bs := 716) F dX2_copy_4 mi_X2_init rfl q335 q129 (ct_X2_init (h0 := h) f10 ⟨w4, ho_e3⟩ x9) rfl rfl (nle rfl) (nle rfl) (nle rfl) (g_pO (fun v11 h_12 p13 => ?_)) g_pOX
  obtain ⟨rfl, hEi, hthi⟩ := p13
  obtain ⟨A1, o1, n1, n2, n3, n4, hA71, -, T1⟩ := hthi
  obtain ⟨⟨T10, -⟩, -, -, ⟨dz1, hZ1, hZN1, hZo1, -⟩, -⟩ := T1
  have hti : h_12 q1 = some (.inr (2, [.ref (A1 0 0), .ref (A1 0 1), .ref (A1 0 2), .ref (A1 0 3), .ref (A1 7 0), .int (x0 5), .int (60 - mOn x0 n1), .int (x0 6), .int (x0 0), .int (x0 7), .int (x0 8), .int (x0 10)])) := by rw [← hA71]; exact T10
  refine g_eqs (st' := [.ref q1]) rfl ?_
  refine g_astore_n (lv' := [(1, .ref q1), (0, .ref (A 7 1))]) F dX2_copy_7 rfl (by decide) rfl ?_
  refine g_aload_n F dX2_copy_8 0 rfl rfl ?_
  refine g_aload_n F dX2_copy_9 1 rfl rfl ?_
  refine gf_X2_14_X2 (v := .ref (A 0 0)) F dX2_copy_10 (hEi _ _ hT0) rfl ?_
  refine g_callV (b := 57) (bs := 531) F dX2_copy_13 mi_X3_copy q336 q337 q338 gc_X3 (hEi _ _ hR0) (ct_X3_copy_X5 (b0 := fun i => nI i) (b1 := fun i => f (11 + 4 * i)) (b2 := fun i => mLoad f nc (nI i)) (b3 := fun i => mCnt f nc (nI i)) (b4 := fun i => f (12 + 4 * i)) (b5 := fun i => f (13 + 4 * i)) (b6 := fun i => f (14 + 4 * i)) (hEi _ _ hR0) (lsO.up hEi hL0) (tLs.up hEi hB) nb8 hKA) rfl rfl (nle rfl) (nle rfl) (nle rfl) (g_pO (fun v18 h_19 p20 => ?_)) g_pOX
  obtain ⟨r0, a0, d0, l0, m0, rfl, hr0, hNr0, hl0, hE0, hV0, hN0⟩ := p20
  have hw0 : ∀ x, gNw K h_12 x → gNw K h x := fun x q => ⟨gE.no hEi q.1, q.2⟩
  have x25 := gE.tr hEi hE0
  have f26 := hE0 _ _ hti
  have f27 := hE0 _ _ hZ1
  have hk0 := lsO.N hw0 hl0
  refine g_eqs (st' := [.ref r0, .ref q1]) rfl ?_
  refine gp_X2_14_X2 (fs' := [.ref r0, .ref (A1 0 1), .ref (A1 0 2), .ref (A1 0 3), .ref (A1 7 0), .int (x0 5), .int (60 - mOn x0 n1), .int (x0 6), .int (x0 0), .int (x0 7), .int (x0 8), .int (x0 10)]) F dX2_copy_16 (Or.inr ⟨_, rfl⟩) f26 ho_e3 (nle rfl) rfl (fun h_28 e29 => ?_)
  have x30 := gE.wr1 x25 e29 w4
  have f31 := gu_t e29 f27 (gneB f27 f26)
  have f32 := gu_t e29 hr0 (gne hr0 f26 (by decide))
  have t33 := lsO.oth e29 f26 (by decide) hk0
  have t34 := tLs.oth e29 f26 (by decide) (show tLs h_19 9 nb l0 (vB f nc) from hV0)
  have f35 := gu_a e29
  refine g_aload_n F dX2_copy_19 0 rfl rfl ?_
  refine g_aload_n F dX2_copy_20 1 rfl rfl ?_
  refine gf_X2_20_X2 (v := .ref (A 0 1)) F dX2_copy_21 (x30 _ _ hT0) rfl ?_
  refine g_callV (b := 30) (bs := 306) F dX2_copy_24 mi_X3_copy q336 q337 q338 gc_X3 (x30 _ _ hR1) (ct_X3_copy_X6 (b0 := fun i => nI i) (b1 := fun i => f (43 + 2 * i)) (b2 := fun i => f (44 + 2 * i)) (x30 _ _ hR1) (lsO.up x30 hL1) (tLs.up x30 hCu) nc12 hKA) rfl rfl (nle rfl) (nle rfl) (nle rfl) (g_pO (fun v36 h_37 p38 => ?_)) g_pOX
  obtain ⟨r1, a1, d1, l1, m1, rfl, hr1, hNr1, hl1, hE1, hV1, hN1⟩ := p38
  have n01 : a0 ≠ a1 ∧ (0 < nb → 0 < nc → d0 ≠ d1) := ⟨gnew hl1.2.1.1 t33.1, fun p q => gnew (lsO.ar hl1 q).2.1.1 (lsO.ar t33 p).2.2⟩
  have hw1 : ∀ x, gNw K h_28 x → gNw K h x := fun x q => ⟨gE.no x30 q.1, q.2⟩
  have x43 := gE.tr x30 hE1
  have f44 := hE1 _ _ f31
  have f45 := hE1 _ _ f32
  have f46 := hE1 _ _ f35
  have t47 := lsO.up hE1 t33
  have t48 := tLs.up hE1 t34
  have hk1 := lsO.N hw1 hl1
  refine g_eqs (st' := [.ref r1, .ref q1]) rfl ?_
  refine gp_X2_20_X2 (fs' := [.ref r0, .ref r1, .ref (A1 0 2), .ref (A1 0 3), .ref (A1 7 0), .int (x0 5), .int (60 - mOn x0 n1), .int (x0 6), .int (x0 0), .int (x0 7), .int (x0 8), .int (x0 10)]) F dX2_copy_27 (Or.inr ⟨_, rfl⟩) f46 ho_e3 (nle rfl) rfl (fun h_49 e50 => ?_)
  have x51 := gE.wr1 x43 e50 w4
  have f52 := gu_t e50 f44 (gneB f44 f46)
  have f53 := gu_t e50 f45 (gne f45 f46 (by decide))
  have f54 := gu_t e50 hr1 (gne hr1 f46 (by decide))
  have t55 := lsO.oth e50 f46 (by decide) t47
  have t56 := lsO.oth e50 f46 (by decide) hk1
  have t57 := tLs.oth e50 f46 (by decide) t48
  have t58 := tLs.oth e50 f46 (by decide) (show tLs h_37 10 nc l1 (vC f) from hV1)
  have f59 := gu_a e50
  refine g_aload_n F dX2_copy_30 0 rfl rfl ?_
  refine g_aload_n F dX2_copy_31 1 rfl rfl ?_
  refine gf_X2_23_X2 (v := .ref (A 0 2)) F dX2_copy_32 (x51 _ _ hT0) rfl ?_
  refine g_callV (b := 15) (bs := 189) F dX2_copy_35 mi_X3_copy q336 q337 q338 gc_X3 (x51 _ _ hR2) (ct_X3_copy_X7 (b0 := fun i => nI i) (b1 := fun i => f (68 + 2 * i)) (b2 := fun i => f (67 + 2 * i)) (x51 _ _ hR2) (lsO.up x51 hL2) (tLs.up x51 hHa) nh6 hKA) rfl rfl (nle rfl) (nle rfl) (nle rfl) (g_pO (fun v60 h_61 p62 => ?_)) g_pOX
  obtain ⟨r2, a2, d2, l2, m2, rfl, hr2, hNr2, hl2, hE2, hV2, hN2⟩ := p62
  have n02 : a0 ≠ a2 ∧ (0 < nb → 0 < nh → d0 ≠ d2) := ⟨gnew hl2.2.1.1 t55.1, fun p q => gnew (lsO.ar hl2 q).2.1.1 (lsO.ar t55 p).2.2⟩
  have n12 : a1 ≠ a2 ∧ (0 < nc → 0 < nh → d1 ≠ d2) := ⟨gnew hl2.2.1.1 t56.1, fun p q => gnew (lsO.ar hl2 q).2.1.1 (lsO.ar t56 p).2.2⟩
  have hw2 : ∀ x, gNw K h_49 x → gNw K h x := fun x q => ⟨gE.no x51 q.1, q.2⟩
  have x67 := gE.tr x51 hE2
  have f68 := hE2 _ _ f52
  have f69 := hE2 _ _ f53
  have f70 := hE2 _ _ f54
  have f71 := hE2 _ _ f59
  have t72 := lsO.up hE2 t55
  have t73 := lsO.up hE2 t56
  have t74 := tLs.up hE2 t57
  have t75 := tLs.up hE2 t58
  have hk2 := lsO.N hw2 hl2
  refine g_eqs (st' := [.ref r2, .ref q1]) rfl ?_
  refine gp_X2_23_X2 (fs' := [.ref r0, .ref r1, .ref r2, .ref (A1 0 3), .ref (A1 7 0), .int (x0 5), .int (60 - mOn x0 n1), .int (x0 6), .int (x0 0), .int (x0 7), .int (x0 8), .int (x0 10)]) F dX2_copy_38 (Or.inr ⟨_, rfl⟩) f71 ho_e3 (nle rfl) rfl (fun h_76 e77 => ?_)
  have x78 := gE.wr1 x67 e77 w4
  have f79 := gu_t e77 f68 (gneB f68 f71)
  have f80 := gu_t e77 f69 (gne f69 f71 (by decide))
  have f81 := gu_t e77 f70 (gne f70 f71 (by decide))
  have f82 := gu_t e77 hr2 (gne hr2 f71 (by decide))
  have t83 := lsO.oth e77 f71 (by decide) t72
  have t84 := lsO.oth e77 f71 (by decide) t73
  have t85 := lsO.oth e77 f71 (by decide) hk2
  have t86 := tLs.oth e77 f71 (by decide) t74
  have t87 := tLs.oth e77 f71 (by decide) t75
  have t88 := tLs.oth e77 f71 (by decide) (show tLs h_61 11 nh l2 (vH f) from hV2)
  have f89 := gu_a e77
  refine g_aload_n F dX2_copy_41 0 rfl rfl ?_
  refine g_aload_n F dX2_copy_42 1 rfl rfl ?_
  refine gf_X2_26_X2 (v := .ref (A 0 3)) F dX2_copy_43 (x78 _ _ hT0) rfl ?_
  refine g_callV (b := 0) (bs := 0) F dX2_copy_46 mi_X3_copy q336 q337 q338 gc_X3 (x78 _ _ hR3) (ct_X3_copy_X17 (b0 := fun i => f (83 + 4 * o i)) (b1 := fun i => f (84 + 4 * o i)) (b2 := fun i => f (85 + 4 * o i)) (b3 := fun i => f (86 + 4 * o i)) (x78 _ _ hR3) (lsO.up x78 hL3) (tLs.up x78 (fun i hi => hQu (o i) (hSg.1 i hi))) nq12 hKA) rfl rfl (nle rfl) (nle rfl) (nle rfl) (g_pO (fun v90 h_91 p92 => ?_)) g_pOX
  obtain ⟨r3, a3, d3, m3, rfl, hr3, hNr3, hl3, hE3⟩ := p92
  have n03 : a0 ≠ a3 ∧ (0 < nb → 0 < nq → d0 ≠ d3) := ⟨gnew hl3.2.1.1 t83.1, fun p q => gnew (lsO.ar hl3 q).2.1.1 (lsO.ar t83 p).2.2⟩
  have n13 : a1 ≠ a3 ∧ (0 < nc → 0 < nq → d1 ≠ d3) := ⟨gnew hl3.2.1.1 t84.1, fun p q => gnew (lsO.ar hl3 q).2.1.1 (lsO.ar t84 p).2.2⟩
  have n23 : a2 ≠ a3 ∧ (0 < nh → 0 < nq → d2 ≠ d3) := ⟨gnew hl3.2.1.1 t85.1, fun p q => gnew (lsO.ar hl3 q).2.1.1 (lsO.ar t85 p).2.2⟩
  have hw3 : ∀ x, gNw K h_76 x → gNw K h x := fun x q => ⟨gE.no x78 q.1, q.2⟩
  have x97 := gE.tr x78 hE3
  have f98 := hE3 _ _ f79
  have f99 := hE3 _ _ f80
  have f100 := hE3 _ _ f81
  have f101 := hE3 _ _ f82
  have f102 := hE3 _ _ f89
  have t103 := lsO.up hE3 t83
  have t104 := lsO.up hE3 t84
  have t105 := lsO.up hE3 t85
  have t106 := tLs.up hE3 t86
  have t107 := tLs.up hE3 t87
  have t108 := tLs.up hE3 t88
  have hk3 := lsO.N hw3 hl3
  refine g_eqs (st' := [.ref r3, .ref q1]) rfl ?_
  refine gp_X2_26_X2 (fs' := [.ref r0, .ref r1, .ref r2, .ref r3, .ref (A1 7 0), .int (x0 5), .int (60 - mOn x0 n1), .int (x0 6), .int (x0 0), .int (x0 7), .int (x0 8), .int (x0 10)]) F dX2_copy_49 (Or.inr ⟨_, rfl⟩) f102 ho_e3 (nle rfl) rfl (fun h_109 e110 => ?_)
  have x111 := gE.wr1 x97 e110 w4
  have f112 := gu_t e110 f98 (gneB f98 f102)
  have f113 := gu_t e110 f99 (gne f99 f102 (by decide))
  have f114 := gu_t e110 f100 (gne f100 f102 (by decide))
  have f115 := gu_t e110 f101 (gne f101 f102 (by decide))
  have f116 := gu_t e110 hr3 (gne hr3 f102 (by decide))
  have t117 := lsO.oth e110 f102 (by decide) t103
  have t118 := lsO.oth e110 f102 (by decide) t104
  have t119 := lsO.oth e110 f102 (by decide) t105
  have t120 := lsO.oth e110 f102 (by decide) hk3
  have t121 := tLs.oth e110 f102 (by decide) t106
  have t122 := tLs.oth e110 f102 (by decide) t107
  have t123 := tLs.oth e110 f102 (by decide) t108
  have f124 := gu_a e110
  refine g_aload_n F dX2_copy_52 1 rfl rfl ?_
  refine gf_X2_29_X2 (v := .ref (A 7 0)) F dX2_copy_53 (x111 _ _ hT0) rfl ?_
  refine g_iconst (v := 0) F dX2_copy_56 rfl ?_
  refine g_aload_n F dX2_copy_57 0 rfl rfl ?_
  refine gf_X2_29_X2 (v := .ref (A1 7 0)) F dX2_copy_58 f124 rfl ?_
  refine g_iconst (v := 0) F dX2_copy_61 rfl ?_
  refine g_iconst (v := 4) F dX2_copy_62 rfl ?_
  refine g_acpy (t := 2) F ⟨q721, q718, q717, q94⟩ (by decide) (x111 _ _ hZ0) hZo f112 hZo1 (by decide) (by decide) (by decide) (by decide) (by decide) (fun i hi => by have h4 : i < 4 := hi; show fits .boolean (.int (dz (0 + i))) = true; rw [Nat.zero_add, hZd i h4]; obtain ⟨j, hj, e⟩ := iDo i h4; rw [e]; rcases (show j = 0 ∨ j = 1 by omega) with rfl | rfl <;> rfl) (nle rfl) (nle rfl) dX2_copy_63 (fun h_125 e126 => ?_)
  have x127 := gE.wr1 x111 e126 hZN1.1
  have f128 := gu_t e126 f113 (gneA f113 f112)
  have f129 := gu_t e126 f114 (gneA f114 f112)
  have f130 := gu_t e126 f115 (gneA f115 f112)
  have f131 := gu_t e126 f116 (gneA f116 f112)
  have f132 := gu_t e126 f124 (gneA f124 f112)
  have t133 := lsO.otA F.inj e126 f112 (by decide) t117
  have t134 := lsO.otA F.inj e126 f112 (by decide) t118
  have t135 := lsO.otA F.inj e126 f112 (by decide) t119
  have t136 := lsO.otA F.inj e126 f112 (by decide) t120
  have t137 := tLs.otA e126 f112 t121
  have t138 := tLs.otA e126 f112 t122
  have t139 := tLs.otA e126 f112 t123
  have f140 := gu_a e126
  refine g_aload_n F dX2_copy_66 0 rfl rfl ?_
  refine g_aload_n F dX2_copy_67 1 rfl rfl ?_
  refine gf_X2_33_X2 (v := .int (f 5)) F dX2_copy_68 (x127 _ _ hT0) rfl ?_
  refine gp_X2_33_X2 (fs' := [.ref r0, .ref r1, .ref r2, .ref r3, .ref (A1 7 0), .int (f 5), .int (60 - mOn x0 n1), .int (x0 6), .int (x0 0), .int (x0 7), .int (x0 8), .int (x0 10)]) F dX2_copy_71 f132 ho_e3 (nle rfl) rfl (fun h_141 e142 => ?_)
  have x143 := gE.wr1 x127 e142 w4
  have f144 := gu_t e142 f128 (gne f128 f132 (by decide))
  have f145 := gu_t e142 f129 (gne f129 f132 (by decide))
  have f146 := gu_t e142 f130 (gne f130 f132 (by decide))
  have f147 := gu_t e142 f131 (gne f131 f132 (by decide))
  have f148 := gu_t e142 f140 (gneB f140 f132)
  have t149 := lsO.oth e142 f132 (by decide) t133
  have t150 := lsO.oth e142 f132 (by decide) t134
  have t151 := lsO.oth e142 f132 (by decide) t135
  have t152 := lsO.oth e142 f132 (by decide) t136
  have t153 := tLs.oth e142 f132 (by decide) t137
  have t154 := tLs.oth e142 f132 (by decide) t138
  have t155 := tLs.oth e142 f132 (by decide) t139
  have f156 := gu_a e142
  refine g_aload_n F dX2_copy_74 0 rfl rfl ?_
  refine g_aload_n F dX2_copy_75 1 rfl rfl ?_
  refine gf_X2_37_X2 (v := .int (60 - mOn f nb)) F dX2_copy_76 (x143 _ _ hT0) rfl ?_
  refine gp_X2_37_X2 (fs' := [.ref r0, .ref r1, .ref r2, .ref r3, .ref (A1 7 0), .int (f 5), .int (60 - mOn f nb), .int (x0 6), .int (x0 0), .int (x0 7), .int (x0 8), .int (x0 10)]) F dX2_copy_79 f156 ho_e3 (nle rfl) rfl (fun h_157 e158 => ?_)
  have x159 := gE.wr1 x143 e158 w4
  have f160 := gu_t e158 f144 (gne f144 f156 (by decide))
  have f161 := gu_t e158 f145 (gne f145 f156 (by decide))
  have f162 := gu_t e158 f146 (gne f146 f156 (by decide))
  have f163 := gu_t e158 f147 (gne f147 f156 (by decide))
  have f164 := gu_t e158 f148 (gneB f148 f156)
  have t165 := lsO.oth e158 f156 (by decide) t149
  have t166 := lsO.oth e158 f156 (by decide) t150
  have t167 := lsO.oth e158 f156 (by decide) t151
  have t168 := lsO.oth e158 f156 (by decide) t152
  have t169 := tLs.oth e158 f156 (by decide) t153
  have t170 := tLs.oth e158 f156 (by decide) t154
  have t171 := tLs.oth e158 f156 (by decide) t155
  have f172 := gu_a e158
  refine g_aload_n F dX2_copy_82 0 rfl rfl ?_
  refine g_aload_n F dX2_copy_83 1 rfl rfl ?_
  refine gf_X2_40_X2 (v := .int (f 6)) F dX2_copy_84 (x159 _ _ hT0) rfl ?_
  refine gp_X2_40_X2 (fs' := [.ref r0, .ref r1, .ref r2, .ref r3, .ref (A1 7 0), .int (f 5), .int (60 - mOn f nb), .int (f 6), .int (x0 0), .int (x0 7), .int (x0 8), .int (x0 10)]) F dX2_copy_87 f172 ho_e3 (nle rfl) rfl (fun h_173 e174 => ?_)
  have x175 := gE.wr1 x159 e174 w4
  have f176 := gu_t e174 f160 (gne f160 f172 (by decide))
  have f177 := gu_t e174 f161 (gne f161 f172 (by decide))
  have f178 := gu_t e174 f162 (gne f162 f172 (by decide))
  have f179 := gu_t e174 f163 (gne f163 f172 (by decide))
  have f180 := gu_t e174 f164 (gneB f164 f172)
  have t181 := lsO.oth e174 f172 (by decide) t165
  have t182 := lsO.oth e174 f172 (by decide) t166
  have t183 := lsO.oth e174 f172 (by decide) t167
  have t184 := lsO.oth e174 f172 (by decide) t168
  have t185 := tLs.oth e174 f172 (by decide) t169
  have t186 := tLs.oth e174 f172 (by decide) t170
  have t187 := tLs.oth e174 f172 (by decide) t171
  have f188 := gu_a e174
  refine g_aload_n F dX2_copy_90 0 rfl rfl ?_
  refine g_aload_n F dX2_copy_91 1 rfl rfl ?_
  refine gf_X2_57_X2 (v := .int (f 0)) F dX2_copy_92 (x175 _ _ hT0) rfl ?_
  refine gp_X2_57_X2 (fs' := [.ref r0, .ref r1, .ref r2, .ref r3, .ref (A1 7 0), .int (f 5), .int (60 - mOn f nb), .int (f 6), .int (f 0), .int (x0 7), .int (x0 8), .int (x0 10)]) F dX2_copy_95 f188 ho_e3 (nle rfl) rfl (fun h_189 e190 => ?_)
  have x191 := gE.wr1 x175 e190 w4
  have f192 := gu_t e190 f176 (gne f176 f188 (by decide))
  have f193 := gu_t e190 f177 (gne f177 f188 (by decide))
  have f194 := gu_t e190 f178 (gne f178 f188 (by decide))
  have f195 := gu_t e190 f179 (gne f179 f188 (by decide))
  have f196 := gu_t e190 f180 (gneB f180 f188)
  have t197 := lsO.oth e190 f188 (by decide) t181
  have t198 := lsO.oth e190 f188 (by decide) t182
  have t199 := lsO.oth e190 f188 (by decide) t183
  have t200 := lsO.oth e190 f188 (by decide) t184
  have t201 := tLs.oth e190 f188 (by decide) t185
  have t202 := tLs.oth e190 f188 (by decide) t186
  have t203 := tLs.oth e190 f188 (by decide) t187
  have f204 := gu_a e190
  refine g_aload_n F dX2_copy_98 0 rfl rfl ?_
  refine g_aload_n F dX2_copy_99 1 rfl rfl ?_
  refine gf_X2_43_X2 (v := .int (f 7)) F dX2_copy_100 (x191 _ _ hT0) rfl ?_
  refine gp_X2_43_X2 (fs' := [.ref r0, .ref r1, .ref r2, .ref r3, .ref (A1 7 0), .int (f 5), .int (60 - mOn f nb), .int (f 6), .int (f 0), .int (f 7), .int (x0 8), .int (x0 10)]) F dX2_copy_103 f204 ho_e3 (nle rfl) rfl (fun h_205 e206 => ?_)
  have x207 := gE.wr1 x191 e206 w4
  have f208 := gu_t e206 f192 (gne f192 f204 (by decide))
  have f209 := gu_t e206 f193 (gne f193 f204 (by decide))
  have f210 := gu_t e206 f194 (gne f194 f204 (by decide))
  have f211 := gu_t e206 f195 (gne f195 f204 (by decide))
  have f212 := gu_t e206 f196 (gneB f196 f204)
  have t213 := lsO.oth e206 f204 (by decide) t197
  have t214 := lsO.oth e206 f204 (by decide) t198
  have t215 := lsO.oth e206 f204 (by decide) t199
  have t216 := lsO.oth e206 f204 (by decide) t200
  have t217 := tLs.oth e206 f204 (by decide) t201
  have t218 := tLs.oth e206 f204 (by decide) t202
  have t219 := tLs.oth e206 f204 (by decide) t203
  have f220 := gu_a e206
  refine g_aload_n F dX2_copy_106 0 rfl rfl ?_
  refine g_aload_n F dX2_copy_107 1 rfl rfl ?_
  refine gf_X2_60_X2 (v := .int (f 8)) F dX2_copy_108 (x207 _ _ hT0) rfl ?_
  refine gp_X2_60_X2 (fs' := [.ref r0, .ref r1, .ref r2, .ref r3, .ref (A1 7 0), .int (f 5), .int (60 - mOn f nb), .int (f 6), .int (f 0), .int (f 7), .int (f 8), .int (x0 10)]) F dX2_copy_111 f220 ho_e3 (nle rfl) rfl (fun h_221 e222 => ?_)
  have x223 := gE.wr1 x207 e222 w4
  have f224 := gu_t e222 f208 (gne f208 f220 (by decide))
  have f225 := gu_t e222 f209 (gne f209 f220 (by decide))
  have f226 := gu_t e222 f210 (gne f210 f220 (by decide))
  have f227 := gu_t e222 f211 (gne f211 f220 (by decide))
  have f228 := gu_t e222 f212 (gneB f212 f220)
  have t229 := lsO.oth e222 f220 (by decide) t213
  have t230 := lsO.oth e222 f220 (by decide) t214
  have t231 := lsO.oth e222 f220 (by decide) t215
  have t232 := lsO.oth e222 f220 (by decide) t216
  have t233 := tLs.oth e222 f220 (by decide) t217
  have t234 := tLs.oth e222 f220 (by decide) t218
  have t235 := tLs.oth e222 f220 (by decide) t219
  have f236 := gu_a e222
  refine g_aload_n F dX2_copy_114 0 rfl rfl ?_
  refine g_aload_n F dX2_copy_115 1 rfl rfl ?_
  refine gf_X2_63_X2 (v := .int (f 10)) F dX2_copy_116 (x223 _ _ hT0) rfl ?_
  refine gp_X2_63_X2 (fs' := [.ref r0, .ref r1, .ref r2, .ref r3, .ref (A1 7 0), .int (f 5), .int (60 - mOn f nb), .int (f 6), .int (f 0), .int (f 7), .int (f 8), .int (f 10)]) F dX2_copy_119 f236 ho_e3 (nle rfl) rfl (fun h_237 e238 => ?_)
  have x239 := gE.wr1 x223 e238 w4
  have f240 := gu_t e238 f224 (gne f224 f236 (by decide))
  have f241 := gu_t e238 f225 (gne f225 f236 (by decide))
  have f242 := gu_t e238 f226 (gne f226 f236 (by decide))
  have f243 := gu_t e238 f227 (gne f227 f236 (by decide))
  have f244 := gu_t e238 f228 (gneB f228 f236)
  have t245 := lsO.oth e238 f236 (by decide) t229
  have t246 := lsO.oth e238 f236 (by decide) t230
  have t247 := lsO.oth e238 f236 (by decide) t231
  have t248 := lsO.oth e238 f236 (by decide) t232
  have t249 := tLs.oth e238 f236 (by decide) t233
  have t250 := tLs.oth e238 f236 (by decide) t234
  have t251 := tLs.oth e238 f236 (by decide) t235
  have f252 := gu_a e238
  refine g_aload_n F dX2_copy_122 0 rfl rfl ?_
  exact g_aret F dX2_copy_123 (Or.inl ⟨_, rfl⟩) (Or.inr ⟨_, rfl⟩) (⟨_, rfl, q1, rfl, ⟨w4, ho_e3⟩, x239, th_cp f252 ⟨w4, ho_e3⟩ f240 f241 f242 f243 t245 t246 t247 t248 f244 hZN1 hZo1 (fun k hk => show va_cpy dz dz1 0 0 4 k = f (79 + k) from by rw [pk_cpy_in (Nat.zero_le _) (by omega), Nat.zero_add, Nat.sub_zero]; exact hZd k hk) t249 (fun i hi => hw0 _ (hN0 i hi)) t250 (fun i hi => hw1 _ (hN1 i hi)) t251 (fun i hi => hw2 _ (hN2 i hi)) (tLs.up x239 hQu) n01 n02 n03 n12 n13 n23 hSg hC⟩)
