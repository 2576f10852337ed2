/-! ===== The theatre: lists made (written by tools/class11.py) ===== -/
set_option maxHeartbeats 4000000 in
set_option maxRecDepth 100000 in
theorem ct_X2_curtainsOn {K : gK} {N : Nat → Prop} {h : AH} {A : Nat → Nat → Nat} {o : Nat → Nat} {f : Nat → Int32} {nb nc nh nq : Nat} (hT : th K N h A o f nb nc nh nq) {x : Int32} {Y : Nat} (hI : xI f nb nc nh nq Y) (hKA : gKA K) : gCt K yX2_curtainsOn w_X2_curtainsOn 7 158 14 185 h [.ref (A 7 1), .int x] (pO (lsW K h (A 4) (qOns f x nc))) := by
  refine g_meth pf_X2_curtainsOn (nle rfl) (fun p e s m args below meth c F hnm htb => ?_)
  have F : gFix K p s m args meth c cX2_curtainsOn 6 RX2 (some (.object "java/lang/Iterable")) := F
  refine g_eql (lv' := [(0, .ref (A 7 1)), (1, .int x)]) rfl ?_
  have hTt := hT
  obtain ⟨⟨hT0, hTN⟩, hRw, ⟨MD, hLs⟩, ⟨dz, hZ0, hZN, hZo, hZd⟩, ⟨hB, hBN⟩, ⟨hCu, hCN⟩, ⟨hHa, hHN⟩, hQu, hDj, hSg⟩ := hTt
  have hR0 : h (A 0 0) = some (.inr (3, [.ref (A 1 0), .int 8])) := hRw 0 (by decide)
  have hR1 : h (A 0 1) = some (.inr (3, [.ref (A 1 1), .int 12])) := hRw 1 (by decide)
  have hR2 : h (A 0 2) = some (.inr (3, [.ref (A 1 2), .int 6])) := hRw 2 (by decide)
  have hR3 : h (A 0 3) = some (.inr (3, [.ref (A 1 3), .int 12])) := hRw 3 (by decide)
  have hL0 : lsO K N h (A 1 0) (A 2 0) nb (A 3) (MD 0) := hLs 0 (by decide)
  have hL1 : lsO K N h (A 1 1) (A 2 1) nc (A 4) (MD 1) := hLs 1 (by decide)
  have hL2 : lsO K N h (A 1 2) (A 2 2) nh (A 5) (MD 2) := hLs 2 (by decide)
  have hL3 : lsO K N h (A 1 3) (A 2 3) nq (fun i => A 6 (o i)) (MD 3) := hLs 3 (by decide)
  have nb15 : nb ≤ 15 := hL0.2.2.1
  have nc15 : nc ≤ 15 := hL1.2.2.1
  have nh15 : nh ≤ 15 := hL2.2.2.1
  have nq15 : nq ≤ 15 := hL3.2.2.1
  obtain ⟨iC, iL, iBa, iWe, iDo, iCu, iMe⟩ := hI
  obtain ⟨f1, nb8, f2, nc12, f3, nh6, f4, nq12⟩ := iC
  refine g_new (fs := [.int 0, .null, .int 0]) (b := 13) (bs := 182) F in_J2 tyJ2 tyJ2_ok q741 q139 q74 gc_J2 nf_J2 dX2_curtainsOn_0 (fun q1 h_2 hn_e3 ho_e3 e3 => ?_)
  have w4 := gE.no gE.rf hn_e3
  have d5 := gnew hn_e3 (hL0).1
  have d6 := gnew hn_e3 (hL1).1
  have d7 := gnew hn_e3 (hL2).1
  have d8 := gnew hn_e3 (hL3).1
  have x9 := gE.new1 gE.rf e3 hn_e3
  have f10 := gu_a e3
  refine g_dup F dX2_curtainsOn_3 rfl ?_
  refine g_callI F dX2_curtainsOn_4 mi_J2_init rfl q742 q141 (ct_J2_init f10 ho_e3) rfl rfl (nle rfl) (nle rfl) (nle rfl) (g_purv ?_) g_purvX
  refine g_gen (fun h_18 e19 => ?_)
  have x20 := gE.wr1 x9 e19 w4
  have e21 := (by rw [e19, e3, gu_gu] : h_18 = gu h q1 _)
  have f22 := gu_a e19
  refine g_astore_n (lv' := [(2, .ref q1), (0, .ref (A 7 1)), (1, .int x)]) F dX2_curtainsOn_7 rfl (by decide) rfl ?_
  refine g_aload_n F dX2_curtainsOn_8 1 rfl rfl ?_
  refine gf_X2_20_X2 (v := .ref (A 0 1)) F dX2_curtainsOn_9 (x20 _ _ hT0) rfl ?_
  refine g_callV (b := 12) (bs := 180) F dX2_curtainsOn_12 mi_X3_iterator q743 q744 q745 gc_X3 (x20 _ _ hR1) ct_X3_iterator rfl rfl (nle rfl) (nle rfl) (nle rfl) (g_pO (fun v23 h_24 p25 => ?_)) g_pOX
  obtain ⟨q30, rfl, hn_e31, ho_e31, e31⟩ := p25
  have w32 := gE.no x20 hn_e31
  have d33 := gnew hn_e31 ((lsO.up x20 hL0)).1
  have d34 := gnew hn_e31 ((lsO.up x20 hL1)).1
  have d35 := gnew hn_e31 ((lsO.up x20 hL2)).1
  have d36 := gnew hn_e31 ((lsO.up x20 hL3)).1
  have d37 := gnew hn_e31 f22
  have x38 := gE.new1 x20 e31 hn_e31
  have f39 := gu_t e31 f22 d37
  have f40 := gu_a e31
  refine g_eqs (st' := [.ref q30]) rfl ?_
  refine g_astore_n (lv' := [(3, .ref q30), (2, .ref q1), (0, .ref (A 7 1)), (1, .int x)]) F dX2_curtainsOn_15 rfl (by decide) rfl ?_
  have lp16 : ∀ k, k ≤ nc → ∀ (h9 : AH) (d9 : Nat) (md9 : Int32), (gE h h9) → (h9 q30 = some (.inr (13, [.int (nI k), .ref (A 0 1)]))) → (lsO K (gNw K h) h9 q1 d9 (qOns f x k).length (fun i => A 4 ((qOns f x k).getD i 0)) md9) → G K p e s m args below meth c (gRm 7 158 14 185) 6 (pO (lsW K h (A 4) (qOns f x nc))) h9 (1 * (12 - k) + 0) (15 * (12 - k) + 0) 16 [(0, .ref (A 7 1)), (1, .int x), (2, .ref q1), (3, .ref q30)] [] := by
    refine gloop nc (fun k hk ih => ?_)
    intro h9 d9 md9 hE9 hs9 hl9
    refine g_aload_n F dX2_curtainsOn_16 3 rfl rfl ?_
    refine g_callF (x := ⟨"java/util/Iterator", "hasNext", "()Z"⟩) (b := 1 * (12 - k)) (bs := 15 * (12 - k)) F dX2_curtainsOn_17 mi_X13_hasNext rfl q761 0 rfl q372 q370 gc_X13 hs9 (ct_X13_hasNext (k := k) (hE9 _ _ hR1) (lsO.up hE9 hL1) hs9 (by omega)) rfl rfl (nle rfl) (nle rfl) (nle rfl) (g_pur ?_) g_purX
    refine g_if_eq (tgt := 64) F dX2_curtainsOn_22 (by decide) (fun c48 => ?_) (fun c48 => ?_)
    · have hkn : nc = k := by have : ¬ k < nc := (fun z => by simp [z] at c48); omega
      subst hkn
      refine g_room (b' := 0) (bs' := 0) (by omega) (by omega) ?_
      refine g_aload_n F dX2_curtainsOn_64 2 rfl rfl ?_
      exact g_aret F dX2_curtainsOn_65 (Or.inl ⟨_, rfl⟩) (Or.inr ⟨_, rfl⟩) (⟨_, rfl, q1, d9, md9, rfl, hl9, hE9⟩)
    · have hlt : k < nc := Classical.byContradiction (fun z => c48 (by simp [z]))
      refine g_room (b' := (1 * (12 - (k + 1)) + 0) + 1) (bs' := (15 * (12 - (k + 1)) + 0) + 15) (by omega) (by omega) ?_
      refine g_aload_n F dX2_curtainsOn_25 3 rfl rfl ?_
      refine g_callF (x := ⟨"java/util/Iterator", "next", "()Ljava/lang/Object;"⟩) (b := (1 * (12 - (k + 1)) + 0) + 1) (bs := (15 * (12 - (k + 1)) + 0) + 15) F dX2_curtainsOn_26 mi_X13_next rfl q763 3 rfl q394 q392 gc_X13 hs9 (ct_X13_next (hE9 _ _ hR1) (lsO.up hE9 hL1) hs9 ho_e31 hlt (fun i hi => gNum_c (hE9 _ _ (hCu _ hi)))) rfl rfl (nle rfl) (nle rfl) (nle rfl) (g_pur ?_) g_purX
      refine g_gen (fun h_56 e57 => ?_)
      have x58 := gE.wr1 hE9 e57 w32
      have t59 := lsO.oth e57 hs9 (by decide) hl9
      have f60 := gu_a e57
      have b61 : h (A 4 k) = some (.inr (10, [.int (nI k), .int (f (43 + 2 * k)), .int (f (44 + 2 * k))])) := hCu _ hlt
      refine g_eqs (st' := [.ref (A 4 k)]) rfl ?_
      refine g_castE F q1471 gc_X6 (x58 _ _ b61) dX2_curtainsOn_31 ?_
      refine g_astore (lv' := [(4, .ref (A 4 k)), (0, .ref (A 7 1)), (1, .int x), (2, .ref q1), (3, .ref q30)]) F dX2_curtainsOn_34 (by decide) rfl ?_
      refine g_aload F dX2_curtainsOn_36 0 rfl ?_
      refine gf_X2_149_X6 (v := .int (f (44 + 2 * k))) F dX2_curtainsOn_38 (x58 _ _ b61) rfl ?_
      refine g_iload_n F dX2_curtainsOn_41 2 rfl rfl ?_
      refine g_icmp_ne (tgt := 58) F dX2_curtainsOn_42 (by decide) (fun c62 => ?_) (fun c62 => ?_)
      · have d1 := c62
        refine g_iconst (v := 0) F dX2_curtainsOn_58 rfl ?_
        refine g_istore (lv' := [(5, .int 0), (4, .ref (A 4 k)), (0, .ref (A 7 1)), (1, .int x), (2, .ref q1), (3, .ref q30)]) F dX2_curtainsOn_59 (by decide) rfl ?_
        refine g_goto (tgt := 16) F dX2_curtainsOn_61 (by decide) ?_
        refine g_lv (lv' := [(0, .ref (A 7 1)), (1, .int x), (2, .ref q1), (3, .ref q30)]) [2, 3, 4, 5] rfl ?_
        refine g_room (b' := (1 * (12 - (k + 1)) + 0)) (bs' := (15 * (12 - (k + 1)) + 0)) (by omega) (by omega) ?_
        exact g_eql (lv' := [(0, .ref (A 7 1)), (1, .int x), (2, .ref q1), (3, .ref q30)]) (by rfl) (ih hlt h_56 d9 md9 x58 f60 (by rw [qOns_s, if_neg d1]; exact t59))
      · have d1 := c62
        refine g_aload_n F dX2_curtainsOn_45 3 rfl rfl ?_
        refine g_aload F dX2_curtainsOn_46 0 rfl ?_
        refine g_callV (b := (1 * (12 - (k + 1)) + 0)) (bs := (15 * (12 - (k + 1)) + 0)) F dX2_curtainsOn_48 mi_J2_add q1728 q645 q646 gc_J2 (t59).1 (ct_J2_addL (h0 := h) t59 x58 (by have := qOns_len (f := f) (b := x) (n := k); omega) (fun i hi => gOb_c (x58 _ _ (hCu _ (Nat.lt_trans (qOns_lt hi) hlt)))) (gOb_c (x58 _ _ b61)) hKA) rfl rfl (nle rfl) (nle rfl) (nle rfl) (g_pO (fun v63 h_64 p65 => ?_)) g_pOX
        obtain ⟨rfl, p65⟩ := p65
        have x70 := lsG.E p65
        have f71 := lsG.ob p65 t59 f60 (by decide)
        obtain ⟨d72, m73, l74, -, hd_d72, hk_d72⟩ := p65
        refine g_eqs (st' := [.int 1]) rfl ?_
        refine g_if_eq (tgt := 58) F dX2_curtainsOn_51 (by decide) (fun c75 => absurd c75 (by decide)) (fun c75 => ?_)
        refine g_iconst (v := 1) F dX2_curtainsOn_54 rfl ?_
        refine g_goto (tgt := 59) F dX2_curtainsOn_55 (by decide) ?_
        refine g_istore (lv' := [(5, .int 1), (4, .ref (A 4 k)), (0, .ref (A 7 1)), (1, .int x), (2, .ref q1), (3, .ref q30)]) F dX2_curtainsOn_59 (by decide) rfl ?_
        refine g_goto (tgt := 16) F dX2_curtainsOn_61 (by decide) ?_
        refine g_lv (lv' := [(0, .ref (A 7 1)), (1, .int x), (2, .ref q1), (3, .ref q30)]) [2, 3, 4, 5] rfl ?_
        refine g_room (b' := (1 * (12 - (k + 1)) + 0)) (bs' := (15 * (12 - (k + 1)) + 0)) (by omega) (by omega) ?_
        exact g_eql (lv' := [(0, .ref (A 7 1)), (1, .int x), (2, .ref q1), (3, .ref q30)]) (by rfl) (ih hlt h_64 d72 m73 x70 f71 (by rw [qOns_s, if_pos d1]; exact col_t l74))
  have f76 := lsO_0 (K := K) (N := gNw K h) (l := fun i => A 4 ((qOns f x 0).getD i 0)) f39 ⟨w4, ho_e3⟩
  refine g_lv (lv' := [(0, .ref (A 7 1)), (1, .int x), (2, .ref q1), (3, .ref q30)]) [2, 3, 1, 0] rfl ?_
  exact lp16 0 (Nat.zero_le _) h_24 (gAd K 203) 0 x38 f40 f76
set_option maxHeartbeats 4000000 in
set_option maxRecDepth 100000 in
theorem ct_X2_low {K : gK} {N : Nat → Prop} {h : AH} {A : Nat → Nat → Nat} {o : Nat → Nat} {f : Nat → Int32} {nb nc nh nq : Nat} (hT : th K N h A o f nb nc nh nq) {Y : Nat} (hI : xI f nb nc nh nq Y) (hKA : gKA K) : gCt K yX2_low w_X2_low 7 158 10 125 h [.ref (A 7 1)] (pO (lsW K h (A 3) (qLow f nb))) := by
  refine g_meth pf_X2_low (nle rfl) (fun p e s m args below meth c F hnm htb => ?_)
  have F : gFix K p s m args meth c cX2_low 5 RX2 (some (.object "java/util/ArrayList")) := F
  refine g_eql (lv' := [(0, .ref (A 7 1))]) rfl ?_
  have hTt := hT
  obtain ⟨⟨hT0, hTN⟩, hRw, ⟨MD, hLs⟩, ⟨dz, hZ0, hZN, hZo, hZd⟩, ⟨hB, hBN⟩, ⟨hCu, hCN⟩, ⟨hHa, hHN⟩, hQu, hDj, hSg⟩ := hTt
  have hR0 : h (A 0 0) = some (.inr (3, [.ref (A 1 0), .int 8])) := hRw 0 (by decide)
  have hR1 : h (A 0 1) = some (.inr (3, [.ref (A 1 1), .int 12])) := hRw 1 (by decide)
  have hR2 : h (A 0 2) = some (.inr (3, [.ref (A 1 2), .int 6])) := hRw 2 (by decide)
  have hR3 : h (A 0 3) = some (.inr (3, [.ref (A 1 3), .int 12])) := hRw 3 (by decide)
  have hL0 : lsO K N h (A 1 0) (A 2 0) nb (A 3) (MD 0) := hLs 0 (by decide)
  have hL1 : lsO K N h (A 1 1) (A 2 1) nc (A 4) (MD 1) := hLs 1 (by decide)
  have hL2 : lsO K N h (A 1 2) (A 2 2) nh (A 5) (MD 2) := hLs 2 (by decide)
  have hL3 : lsO K N h (A 1 3) (A 2 3) nq (fun i => A 6 (o i)) (MD 3) := hLs 3 (by decide)
  have nb15 : nb ≤ 15 := hL0.2.2.1
  have nc15 : nc ≤ 15 := hL1.2.2.1
  have nh15 : nh ≤ 15 := hL2.2.2.1
  have nq15 : nq ≤ 15 := hL3.2.2.1
  obtain ⟨iC, iL, iBa, iWe, iDo, iCu, iMe⟩ := hI
  obtain ⟨f1, nb8, f2, nc12, f3, nh6, f4, nq12⟩ := iC
  refine g_new (fs := [.int 0, .null, .int 0]) (b := 9) (bs := 122) F in_J2 tyJ2 tyJ2_ok q741 q139 q74 gc_J2 nf_J2 dX2_low_0 (fun q1 h_2 hn_e3 ho_e3 e3 => ?_)
  have w4 := gE.no gE.rf hn_e3
  have d5 := gnew hn_e3 (hL0).1
  have d6 := gnew hn_e3 (hL1).1
  have d7 := gnew hn_e3 (hL2).1
  have d8 := gnew hn_e3 (hL3).1
  have x9 := gE.new1 gE.rf e3 hn_e3
  have f10 := gu_a e3
  refine g_dup F dX2_low_3 rfl ?_
  refine g_callI F dX2_low_4 mi_J2_init rfl q742 q141 (ct_J2_init f10 ho_e3) rfl rfl (nle rfl) (nle rfl) (nle rfl) (g_purv ?_) g_purvX
  refine g_gen (fun h_18 e19 => ?_)
  have x20 := gE.wr1 x9 e19 w4
  have e21 := (by rw [e19, e3, gu_gu] : h_18 = gu h q1 _)
  have f22 := gu_a e19
  refine g_astore_n (lv' := [(1, .ref q1), (0, .ref (A 7 1))]) F dX2_low_7 rfl (by decide) rfl ?_
  refine g_aload_n F dX2_low_8 1 rfl rfl ?_
  refine gf_X2_14_X2 (v := .ref (A 0 0)) F dX2_low_9 (x20 _ _ hT0) rfl ?_
  refine g_callV (b := 8) (bs := 120) F dX2_low_12 mi_X3_iterator q743 q744 q745 gc_X3 (x20 _ _ hR0) ct_X3_iterator rfl rfl (nle rfl) (nle rfl) (nle rfl) (g_pO (fun v23 h_24 p25 => ?_)) g_pOX
  obtain ⟨q30, rfl, hn_e31, ho_e31, e31⟩ := p25
  have w32 := gE.no x20 hn_e31
  have d33 := gnew hn_e31 ((lsO.up x20 hL0)).1
  have d34 := gnew hn_e31 ((lsO.up x20 hL1)).1
  have d35 := gnew hn_e31 ((lsO.up x20 hL2)).1
  have d36 := gnew hn_e31 ((lsO.up x20 hL3)).1
  have d37 := gnew hn_e31 f22
  have x38 := gE.new1 x20 e31 hn_e31
  have f39 := gu_t e31 f22 d37
  have f40 := gu_a e31
  refine g_eqs (st' := [.ref q30]) rfl ?_
  refine g_astore_n (lv' := [(2, .ref q30), (1, .ref q1), (0, .ref (A 7 1))]) F dX2_low_15 rfl (by decide) rfl ?_
  have lp16 : ∀ k, k ≤ nb → ∀ (h9 : AH) (d9 : Nat) (md9 : Int32), (gE h h9) → (h9 q30 = some (.inr (13, [.int (nI k), .ref (A 0 0)]))) → (lsO K (gNw K h) h9 q1 d9 (qLow f k).length (fun i => A 3 ((qLow f k).getD i 0)) md9) → G K p e s m args below meth c (gRm 7 158 10 125) 5 (pO (lsW K h (A 3) (qLow f nb))) h9 (1 * (8 - k) + 0) (15 * (8 - k) + 0) 16 [(0, .ref (A 7 1)), (1, .ref q1), (2, .ref q30)] [] := by
    refine gloop nb (fun k hk ih => ?_)
    intro h9 d9 md9 hE9 hs9 hl9
    refine g_aload_n F dX2_low_16 2 rfl rfl ?_
    refine g_callF (x := ⟨"java/util/Iterator", "hasNext", "()Z"⟩) (b := 1 * (8 - k)) (bs := 15 * (8 - k)) F dX2_low_17 mi_X13_hasNext rfl q761 0 rfl q372 q370 gc_X13 hs9 (ct_X13_hasNext (k := k) (hE9 _ _ hR0) (lsO.up hE9 hL0) hs9 (by omega)) rfl rfl (nle rfl) (nle rfl) (nle rfl) (g_pur ?_) g_purX
    refine g_if_eq (tgt := 60) F dX2_low_22 (by decide) (fun c48 => ?_) (fun c48 => ?_)
    · have hkn : nb = k := by have : ¬ k < nb := (fun z => by simp [z] at c48); omega
      subst hkn
      refine g_room (b' := 0) (bs' := 0) (by omega) (by omega) ?_
      refine g_aload_n F dX2_low_60 1 rfl rfl ?_
      exact g_aret F dX2_low_61 (Or.inl ⟨_, rfl⟩) (Or.inr ⟨_, rfl⟩) (⟨_, rfl, q1, d9, md9, rfl, hl9, hE9⟩)
    · have hlt : k < nb := Classical.byContradiction (fun z => c48 (by simp [z]))
      refine g_room (b' := (1 * (8 - (k + 1)) + 0) + 1) (bs' := (15 * (8 - (k + 1)) + 0) + 15) (by omega) (by omega) ?_
      refine g_aload_n F dX2_low_25 2 rfl rfl ?_
      refine g_callF (x := ⟨"java/util/Iterator", "next", "()Ljava/lang/Object;"⟩) (b := (1 * (8 - (k + 1)) + 0) + 1) (bs := (15 * (8 - (k + 1)) + 0) + 15) F dX2_low_26 mi_X13_next rfl q763 3 rfl q394 q392 gc_X13 hs9 (ct_X13_next (hE9 _ _ hR0) (lsO.up hE9 hL0) hs9 ho_e31 hlt (fun i hi => gNum_b (hE9 _ _ (hB _ hi)))) rfl rfl (nle rfl) (nle rfl) (nle rfl) (g_pur ?_) g_purX
      refine g_gen (fun h_56 e57 => ?_)
      have x58 := gE.wr1 hE9 e57 w32
      have t59 := lsO.oth e57 hs9 (by decide) hl9
      have f60 := gu_a e57
      have b61 : h (A 3 k) = some (.inr (9, [.int (nI k), .int (f (11 + 4 * k)), .int (mLoad f nc (nI k)), .int (mCnt f nc (nI k)), .int (f (12 + 4 * k)), .int (f (13 + 4 * k)), .int (f (14 + 4 * k))])) := hB _ hlt
      refine g_eqs (st' := [.ref (A 3 k)]) rfl ?_
      refine g_castE F q1179 gc_X5 (x58 _ _ b61) dX2_low_31 ?_
      refine g_astore_n (lv' := [(3, .ref (A 3 k)), (0, .ref (A 7 1)), (1, .ref q1), (2, .ref q30)]) F dX2_low_34 rfl (by decide) rfl ?_
      refine g_aload_n F dX2_low_35 0 rfl rfl ?_
      refine gf_X2_181_X5 (v := .int (f (11 + 4 * k))) F dX2_low_36 (x58 _ _ b61) rfl ?_
      refine g_if_ne (tgt := 54) F dX2_low_39 (by decide) (fun c62 => ?_) (fun c62 => ?_)
      · have d1 := c62
        refine g_iconst (v := 0) F dX2_low_54 rfl ?_
        refine g_istore (lv' := [(4, .int 0), (3, .ref (A 3 k)), (0, .ref (A 7 1)), (1, .ref q1), (2, .ref q30)]) F dX2_low_55 (by decide) rfl ?_
        refine g_goto (tgt := 16) F dX2_low_57 (by decide) ?_
        refine g_lv (lv' := [(0, .ref (A 7 1)), (1, .ref q1), (2, .ref q30)]) [2, 3, 4] rfl ?_
        refine g_room (b' := (1 * (8 - (k + 1)) + 0)) (bs' := (15 * (8 - (k + 1)) + 0)) (by omega) (by omega) ?_
        exact g_eql (lv' := [(0, .ref (A 7 1)), (1, .ref q1), (2, .ref q30)]) (by rfl) (ih hlt h_56 d9 md9 x58 f60 (by rw [qLow_s, if_neg d1]; exact t59))
      · have d1 := c62
        refine g_aload_n F dX2_low_42 2 rfl rfl ?_
        refine g_aload_n F dX2_low_43 0 rfl rfl ?_
        refine g_callV (b := (1 * (8 - (k + 1)) + 0)) (bs := (15 * (8 - (k + 1)) + 0)) F dX2_low_44 mi_J2_add q1728 q645 q646 gc_J2 (t59).1 (ct_J2_addL (h0 := h) t59 x58 (by have := qLow_len (f := f) (n := k); omega) (fun i hi => gOb_b (x58 _ _ (hB _ (Nat.lt_trans (qLow_gt hi) hlt)))) (gOb_b (x58 _ _ b61)) hKA) rfl rfl (nle rfl) (nle rfl) (nle rfl) (g_pO (fun v63 h_64 p65 => ?_)) g_pOX
        obtain ⟨rfl, p65⟩ := p65
        have x70 := lsG.E p65
        have f71 := lsG.ob p65 t59 f60 (by decide)
        obtain ⟨d72, m73, l74, -, hd_d72, hk_d72⟩ := p65
        refine g_eqs (st' := [.int 1]) rfl ?_
        refine g_if_eq (tgt := 54) F dX2_low_47 (by decide) (fun c75 => absurd c75 (by decide)) (fun c75 => ?_)
        refine g_iconst (v := 1) F dX2_low_50 rfl ?_
        refine g_goto (tgt := 55) F dX2_low_51 (by decide) ?_
        refine g_istore (lv' := [(4, .int 1), (3, .ref (A 3 k)), (0, .ref (A 7 1)), (1, .ref q1), (2, .ref q30)]) F dX2_low_55 (by decide) rfl ?_
        refine g_goto (tgt := 16) F dX2_low_57 (by decide) ?_
        refine g_lv (lv' := [(0, .ref (A 7 1)), (1, .ref q1), (2, .ref q30)]) [2, 3, 4] rfl ?_
        refine g_room (b' := (1 * (8 - (k + 1)) + 0)) (bs' := (15 * (8 - (k + 1)) + 0)) (by omega) (by omega) ?_
        exact g_eql (lv' := [(0, .ref (A 7 1)), (1, .ref q1), (2, .ref q30)]) (by rfl) (ih hlt h_64 d72 m73 x70 f71 (by rw [qLow_s, if_pos d1]; exact col_t l74))
  have f76 := lsO_0 (K := K) (N := gNw K h) (l := fun i => A 3 ((qLow f 0).getD i 0)) f39 ⟨w4, ho_e3⟩
  refine g_lv (lv' := [(0, .ref (A 7 1)), (1, .ref q1), (2, .ref q30)]) [2, 1, 0] rfl ?_
  exact lp16 0 (Nat.zero_le _) h_24 (gAd K 203) 0 x38 f40 f76
set_option maxHeartbeats 4000000 in
set_option maxRecDepth 100000 in
theorem ct_X16_outBy {K : gK} {N : Nat → Prop} {h : AH} {A : Nat → Nat → Nat} {o : Nat → Nat} {f : Nat → Int32} {nb nc nh nq : Nat} (hT : th K N h A o f nb nc nh nq) {q0 w : Nat} (hq : h q0 = some (.inr (15, [.ref (A 4 w)]))) (hw : w < nc) {i : Nat} (hi : i < nb) : gCt K yX16_outBy w_X16_outBy 2 42 0 0 h [.ref q0, .ref (A 3 i)] (pR (.int (mWith f nc i w)) h) := by
  refine g_meth pf_X16_outBy (nle rfl) (fun p e s m args below meth c F hnm htb => ?_)
  have F : gFix K p s m args meth c cX16_outBy 2 RX16 (some .int) := F
  refine g_eql (lv' := [(0, .ref q0), (1, .ref (A 3 i))]) rfl ?_
  have hTt := hT
  obtain ⟨⟨hT0, hTN⟩, hRw, ⟨MD, hLs⟩, ⟨dz, hZ0, hZN, hZo, hZd⟩, ⟨hB, hBN⟩, ⟨hCu, hCN⟩, ⟨hHa, hHN⟩, hQu, hDj, hSg⟩ := hTt
  have hR0 : h (A 0 0) = some (.inr (3, [.ref (A 1 0), .int 8])) := hRw 0 (by decide)
  have hR1 : h (A 0 1) = some (.inr (3, [.ref (A 1 1), .int 12])) := hRw 1 (by decide)
  have hR2 : h (A 0 2) = some (.inr (3, [.ref (A 1 2), .int 6])) := hRw 2 (by decide)
  have hR3 : h (A 0 3) = some (.inr (3, [.ref (A 1 3), .int 12])) := hRw 3 (by decide)
  have hL0 : lsO K N h (A 1 0) (A 2 0) nb (A 3) (MD 0) := hLs 0 (by decide)
  have hL1 : lsO K N h (A 1 1) (A 2 1) nc (A 4) (MD 1) := hLs 1 (by decide)
  have hL2 : lsO K N h (A 1 2) (A 2 2) nh (A 5) (MD 2) := hLs 2 (by decide)
  have hL3 : lsO K N h (A 1 3) (A 2 3) nq (fun i => A 6 (o i)) (MD 3) := hLs 3 (by decide)
  have nb15 : nb ≤ 15 := hL0.2.2.1
  have nc15 : nc ≤ 15 := hL1.2.2.1
  have nh15 : nh ≤ 15 := hL2.2.2.1
  have nq15 : nq ≤ 15 := hL3.2.2.1
  have b1 : h (A 3 i) = some (.inr (9, [.int (nI i), .int (f (11 + 4 * i)), .int (mLoad f nc (nI i)), .int (mCnt f nc (nI i)), .int (f (12 + 4 * i)), .int (f (13 + 4 * i)), .int (f (14 + 4 * i))])) := hB _ hi
  have b2 : h (A 4 w) = some (.inr (10, [.int (nI w), .int (f (43 + 2 * w)), .int (f (44 + 2 * w))])) := hCu _ hw
  refine g_aload_n F dX16_outBy_0 1 rfl rfl ?_
  refine g_aload_n F dX16_outBy_1 0 rfl rfl ?_
  refine gf_X16_7_X16 (v := .ref (A 4 w)) F dX16_outBy_2 hq rfl ?_
  refine gf_X16_13_X6 (v := .int (f (44 + 2 * w))) F dX16_outBy_5 b2 rfl ?_
  refine g_aload_n F dX16_outBy_8 1 rfl rfl ?_
  refine gf_X16_19_X5 (v := .int (nI i)) F dX16_outBy_9 b1 rfl ?_
  refine g_icmp_ne (tgt := 19) F dX16_outBy_12 (by decide) (fun c3 => ?_) (fun c3 => ?_)
  · have d0 := c3
    refine g_aload_n F dX16_outBy_19 0 rfl rfl ?_
    refine gf_X16_7_X16 (v := .ref (A 4 w)) F dX16_outBy_20 hq rfl ?_
    refine gf_X16_24_X6 (v := .int (f (43 + 2 * w))) F dX16_outBy_23 b2 rfl ?_
    refine g_aload_n F dX16_outBy_26 1 rfl rfl ?_
    refine gf_X16_27_X5 (v := .int (f (12 + 4 * i))) F dX16_outBy_27 b1 rfl ?_
    refine g_callV F dX16_outBy_30 mi_X5_outBy q1125 q1126 q1127 gc_X5 b1 (ct_X5_outBy b1) rfl rfl (nle rfl) (nle rfl) (nle rfl) (g_pur ?_) g_purX
    exact g_iret F dX16_outBy_33 (⟨by simp [mWith, d0], rfl⟩)
  · have d0 := c3
    refine g_iconst (v := 0) F dX16_outBy_15 rfl ?_
    refine g_goto (tgt := 26) F dX16_outBy_16 (by decide) ?_
    refine g_aload_n F dX16_outBy_26 1 rfl rfl ?_
    refine gf_X16_27_X5 (v := .int (f (12 + 4 * i))) F dX16_outBy_27 b1 rfl ?_
    refine g_callV F dX16_outBy_30 mi_X5_outBy q1125 q1126 q1127 gc_X5 b1 (ct_X5_outBy b1) rfl rfl (nle rfl) (nle rfl) (nle rfl) (g_pur ?_) g_purX
    exact g_iret F dX16_outBy_33 (⟨by simp [mWith, d0], rfl⟩)
set_option maxHeartbeats 4000000 in
set_option maxRecDepth 100000 in
theorem ct_X16_isAhead_2 {K : gK} {N : Nat → Prop} {h : AH} {A : Nat → Nat → Nat} {o : Nat → Nat} {f : Nat → Int32} {nb nc nh nq : Nat} (hT : th K N h A o f nb nc nh nq) {q0 w : Nat} (hq : h q0 = some (.inr (15, [.ref (A 4 w)]))) (hw : w < nc) {i j : Nat} (hi : i < nb) (hj : j < nb) : gCt K yX16_isAhead_2 w_X16_isAhead_2 3 63 0 0 h [.ref q0, .ref (A 3 i), .ref (A 3 j)] (pR (.int (if qBt f nc w i j = true then 1 else 0)) h) := by
  refine g_meth pf_X16_isAhead_2 (nle rfl) (fun p e s m args below meth c F hnm htb => ?_)
  have F : gFix K p s m args meth c cX16_isAhead_2 3 RX16 (some .boolean) := F
  refine g_eql (lv' := [(0, .ref q0), (1, .ref (A 3 i)), (2, .ref (A 3 j))]) rfl ?_
  have hTt := hT
  obtain ⟨⟨hT0, hTN⟩, hRw, ⟨MD, hLs⟩, ⟨dz, hZ0, hZN, hZo, hZd⟩, ⟨hB, hBN⟩, ⟨hCu, hCN⟩, ⟨hHa, hHN⟩, hQu, hDj, hSg⟩ := hTt
  have hR0 : h (A 0 0) = some (.inr (3, [.ref (A 1 0), .int 8])) := hRw 0 (by decide)
  have hR1 : h (A 0 1) = some (.inr (3, [.ref (A 1 1), .int 12])) := hRw 1 (by decide)
  have hR2 : h (A 0 2) = some (.inr (3, [.ref (A 1 2), .int 6])) := hRw 2 (by decide)
  have hR3 : h (A 0 3) = some (.inr (3, [.ref (A 1 3), .int 12])) := hRw 3 (by decide)
  have hL0 : lsO K N h (A 1 0) (A 2 0) nb (A 3) (MD 0) := hLs 0 (by decide)
  have hL1 : lsO K N h (A 1 1) (A 2 1) nc (A 4) (MD 1) := hLs 1 (by decide)
  have hL2 : lsO K N h (A 1 2) (A 2 2) nh (A 5) (MD 2) := hLs 2 (by decide)
  have hL3 : lsO K N h (A 1 3) (A 2 3) nq (fun i => A 6 (o i)) (MD 3) := hLs 3 (by decide)
  have nb15 : nb ≤ 15 := hL0.2.2.1
  have nc15 : nc ≤ 15 := hL1.2.2.1
  have nh15 : nh ≤ 15 := hL2.2.2.1
  have nq15 : nq ≤ 15 := hL3.2.2.1
  have b1 : h (A 3 i) = some (.inr (9, [.int (nI i), .int (f (11 + 4 * i)), .int (mLoad f nc (nI i)), .int (mCnt f nc (nI i)), .int (f (12 + 4 * i)), .int (f (13 + 4 * i)), .int (f (14 + 4 * i))])) := hB _ hi
  have b2 : h (A 3 j) = some (.inr (9, [.int (nI j), .int (f (11 + 4 * j)), .int (mLoad f nc (nI j)), .int (mCnt f nc (nI j)), .int (f (12 + 4 * j)), .int (f (13 + 4 * j)), .int (f (14 + 4 * j))])) := hB _ hj
  refine g_aload_n F dX16_isAhead_2_0 0 rfl rfl ?_
  refine g_aload_n F dX16_isAhead_2_1 1 rfl rfl ?_
  refine g_callV F dX16_isAhead_2_2 mi_X16_outBy q1120 q1122 qs6 gc_X16 hq (ct_X16_outBy hT hq hw hi) rfl rfl (nle rfl) (nle rfl) (nle rfl) (g_pur ?_) g_purX
  refine g_aload_n F dX16_isAhead_2_5 0 rfl rfl ?_
  refine g_aload_n F dX16_isAhead_2_6 2 rfl rfl ?_
  refine g_callV F dX16_isAhead_2_7 mi_X16_outBy q1120 q1122 qs6 gc_X16 hq (ct_X16_outBy hT hq hw hj) rfl rfl (nle rfl) (nle rfl) (nle rfl) (g_pur ?_) g_purX
  refine g_icmp_eq (tgt := 32) F dX16_isAhead_2_10 (by decide) (fun c17 => ?_) (fun c17 => ?_)
  · have d0 := c17
    refine g_aload_n F dX16_isAhead_2_32 1 rfl rfl ?_
    refine gf_X16_37_X5 (v := .int (f (13 + 4 * i))) F dX16_isAhead_2_33 b1 rfl ?_
    refine g_aload_n F dX16_isAhead_2_36 2 rfl rfl ?_
    refine gf_X16_37_X5 (v := .int (f (13 + 4 * j))) F dX16_isAhead_2_37 b2 rfl ?_
    refine g_icmp_eq (tgt := 62) F dX16_isAhead_2_40 (by decide) (fun c18 => ?_) (fun c18 => ?_)
    · have d2 := c18
      refine g_aload_n F dX16_isAhead_2_62 1 rfl rfl ?_
      refine g_aload_n F dX16_isAhead_2_63 2 rfl rfl ?_
      refine g_callUD (x := ⟨"CurtainRiggers$Bar", "isAheadByNumber", "(LCurtainRiggers$Numbered;)Z"⟩) (owner := "CurtainRiggers$Numbered") F dX16_isAhead_2_64 mi_X9_isAheadByNumber rfl (F.dfl (List.mem_cons_of_mem _ (List.mem_cons_of_mem _ (List.mem_cons_self))) rfl) (F.dfl (List.mem_cons_of_mem _ (List.mem_cons_of_mem _ (List.mem_cons_of_mem _ (List.mem_cons_self)))) rfl) (va_Decl.abs (F.nw q772 rfl)) (by decide) q774 (F.land (List.mem_cons_of_mem _ (List.mem_cons_of_mem _ (List.mem_cons_of_mem _ (List.mem_cons_of_mem _ (List.mem_cons_of_mem _ (List.mem_cons_self))))))) gc_X5 b1 (ct_X9_isAheadByNumber_X5 b1 b2) rfl rfl (nle rfl) (nle rfl) (nle rfl) (g_pur ?_) g_purX
      exact g_zret F dX16_isAhead_2_67 (by first | rfl | exact mIn_n | (split <;> rfl) | decide) (⟨by first | (rw [qBt_1 d0]; simp [d1]) | (rw [qBt_2 d0 d2]; simp [d3]) | (rw [qBt_3 d0 d2]; simp), rfl⟩)
    · have d2 := c18
      refine g_aload_n F dX16_isAhead_2_43 1 rfl rfl ?_
      refine gf_X16_37_X5 (v := .int (f (13 + 4 * i))) F dX16_isAhead_2_44 b1 rfl ?_
      refine g_aload_n F dX16_isAhead_2_47 2 rfl rfl ?_
      refine gf_X16_37_X5 (v := .int (f (13 + 4 * j))) F dX16_isAhead_2_48 b2 rfl ?_
      refine g_icmp_ge (tgt := 58) F dX16_isAhead_2_51 (by decide) (fun c19 => ?_) (fun c19 => ?_)
      · have d3 := Int32.not_lt.mpr c19
        refine g_iconst (v := 0) F dX16_isAhead_2_58 rfl ?_
        refine g_goto (tgt := 67) F dX16_isAhead_2_59 (by decide) ?_
        exact g_zret F dX16_isAhead_2_67 (by first | rfl | exact mIn_n | (split <;> rfl) | decide) (⟨by first | (rw [qBt_1 d0]; simp [d1]) | (rw [qBt_2 d0 d2]; simp [d3]) | (rw [qBt_3 d0 d2]; simp), rfl⟩)
      · have d3 := Int32.not_le.mp c19
        refine g_iconst (v := 1) F dX16_isAhead_2_54 rfl ?_
        refine g_goto (tgt := 67) F dX16_isAhead_2_55 (by decide) ?_
        exact g_zret F dX16_isAhead_2_67 (by first | rfl | exact mIn_n | (split <;> rfl) | decide) (⟨by first | (rw [qBt_1 d0]; simp [d1]) | (rw [qBt_2 d0 d2]; simp [d3]) | (rw [qBt_3 d0 d2]; simp), rfl⟩)
  · have d0 := c17
    refine g_aload_n F dX16_isAhead_2_13 0 rfl rfl ?_
    refine g_aload_n F dX16_isAhead_2_14 1 rfl rfl ?_
    refine g_callV F dX16_isAhead_2_15 mi_X16_outBy q1120 q1122 qs6 gc_X16 hq (ct_X16_outBy hT hq hw hi) rfl rfl (nle rfl) (nle rfl) (nle rfl) (g_pur ?_) g_purX
    refine g_aload_n F dX16_isAhead_2_18 0 rfl rfl ?_
    refine g_aload_n F dX16_isAhead_2_19 2 rfl rfl ?_
    refine g_callV F dX16_isAhead_2_20 mi_X16_outBy q1120 q1122 qs6 gc_X16 hq (ct_X16_outBy hT hq hw hj) rfl rfl (nle rfl) (nle rfl) (nle rfl) (g_pur ?_) g_purX
    refine g_icmp_ge (tgt := 30) F dX16_isAhead_2_23 (by decide) (fun c34 => ?_) (fun c34 => ?_)
    · have d1 := Int32.not_lt.mpr c34
      refine g_iconst (v := 0) F dX16_isAhead_2_30 rfl ?_
      exact g_zret F dX16_isAhead_2_31 (by first | rfl | exact mIn_n | (split <;> rfl) | decide) (⟨by first | (rw [qBt_1 d0]; simp [d1]) | (rw [qBt_2 d0 d2]; simp [d3]) | (rw [qBt_3 d0 d2]; simp), rfl⟩)
    · have d1 := Int32.not_le.mp c34
      refine g_iconst (v := 1) F dX16_isAhead_2_26 rfl ?_
      refine g_goto (tgt := 31) F dX16_isAhead_2_27 (by decide) ?_
      exact g_zret F dX16_isAhead_2_31 (by first | rfl | exact mIn_n | (split <;> rfl) | decide) (⟨by first | (rw [qBt_1 d0]; simp [d1]) | (rw [qBt_2 d0 d2]; simp [d3]) | (rw [qBt_3 d0 d2]; simp), rfl⟩)
set_option maxHeartbeats 4000000 in
set_option maxRecDepth 100000 in
theorem ct_X16_isAhead {K : gK} {N : Nat → Prop} {h : AH} {A : Nat → Nat → Nat} {o : Nat → Nat} {f : Nat → Int32} {nb nc nh nq : Nat} (hT : th K N h A o f nb nc nh nq) {q0 w : Nat} (hq : h q0 = some (.inr (15, [.ref (A 4 w)]))) (hw : w < nc) {i j : Nat} (hi : i < nb) (hj : j < nb) : gCt K yX16_isAhead w_X16_isAhead 4 85 0 0 h [.ref q0, .ref (A 3 i), .ref (A 3 j)] (pR (.int (if qBt f nc w i j = true then 1 else 0)) h) := by
  refine g_meth pf_X16_isAhead (nle rfl) (fun p e s m args below meth c F hnm htb => ?_)
  have F : gFix K p s m args meth c cX16_isAhead 3 RX16 (some .boolean) := F
  refine g_eql (lv' := [(0, .ref q0), (1, .ref (A 3 i)), (2, .ref (A 3 j))]) rfl ?_
  have hTt := hT
  obtain ⟨⟨hT0, hTN⟩, hRw, ⟨MD, hLs⟩, ⟨dz, hZ0, hZN, hZo, hZd⟩, ⟨hB, hBN⟩, ⟨hCu, hCN⟩, ⟨hHa, hHN⟩, hQu, hDj, hSg⟩ := hTt
  have hR0 : h (A 0 0) = some (.inr (3, [.ref (A 1 0), .int 8])) := hRw 0 (by decide)
  have hR1 : h (A 0 1) = some (.inr (3, [.ref (A 1 1), .int 12])) := hRw 1 (by decide)
  have hR2 : h (A 0 2) = some (.inr (3, [.ref (A 1 2), .int 6])) := hRw 2 (by decide)
  have hR3 : h (A 0 3) = some (.inr (3, [.ref (A 1 3), .int 12])) := hRw 3 (by decide)
  have hL0 : lsO K N h (A 1 0) (A 2 0) nb (A 3) (MD 0) := hLs 0 (by decide)
  have hL1 : lsO K N h (A 1 1) (A 2 1) nc (A 4) (MD 1) := hLs 1 (by decide)
  have hL2 : lsO K N h (A 1 2) (A 2 2) nh (A 5) (MD 2) := hLs 2 (by decide)
  have hL3 : lsO K N h (A 1 3) (A 2 3) nq (fun i => A 6 (o i)) (MD 3) := hLs 3 (by decide)
  have nb15 : nb ≤ 15 := hL0.2.2.1
  have nc15 : nc ≤ 15 := hL1.2.2.1
  have nh15 : nh ≤ 15 := hL2.2.2.1
  have nq15 : nq ≤ 15 := hL3.2.2.1
  have b1 : h (A 3 i) = some (.inr (9, [.int (nI i), .int (f (11 + 4 * i)), .int (mLoad f nc (nI i)), .int (mCnt f nc (nI i)), .int (f (12 + 4 * i)), .int (f (13 + 4 * i)), .int (f (14 + 4 * i))])) := hB _ hi
  have b2 : h (A 3 j) = some (.inr (9, [.int (nI j), .int (f (11 + 4 * j)), .int (mLoad f nc (nI j)), .int (mCnt f nc (nI j)), .int (f (12 + 4 * j)), .int (f (13 + 4 * j)), .int (f (14 + 4 * j))])) := hB _ hj
  refine g_aload_n F dX16_isAhead_0 0 rfl rfl ?_
  refine g_aload_n F dX16_isAhead_1 1 rfl rfl ?_
  refine g_castE F q1115 gc_X5 b1 dX16_isAhead_2 ?_
  refine g_aload_n F dX16_isAhead_5 2 rfl rfl ?_
  refine g_castE F q1115 gc_X5 b2 dX16_isAhead_6 ?_
  refine g_callV F dX16_isAhead_9 mi_X16_isAhead_2 q1116 q1117 q1118 gc_X16 hq (ct_X16_isAhead_2 hT hq hw hi hj) rfl rfl (nle rfl) (nle rfl) (nle rfl) (g_pur ?_) g_purX
  exact g_zret F dX16_isAhead_12 (by split <;> rfl) (⟨rfl, rfl⟩)
set_option maxHeartbeats 4000000 in
set_option maxRecDepth 100000 in
theorem ct_X14_isAhead {K : gK} {h : AH} {q0 a z : Nat} {b0 b1 b2 b3 zb0 zb1 zb2 zb3 : Int32} (hq : h q0 = some (.inr (14, []))) (ha : h a = some (.inr (12, [.int b0, .int b1, .int b2, .int b3]))) (hz : h z = some (.inr (12, [.int zb0, .int zb1, .int zb2, .int zb3]))) : gCt K yX14_isAhead w_X14_isAhead 2 41 0 0 h [.ref q0, .ref a, .ref z] (pR (.int (if b0 < zb0 then 1 else 0)) h) := by
  refine g_meth pf_X14_isAhead (nle rfl) (fun p e s m args below meth c F hnm htb => ?_)
  have F : gFix K p s m args meth c cX14_isAhead 3 RX14 (some .boolean) := F
  refine g_eql (lv' := [(0, .ref q0), (1, .ref a), (2, .ref z)]) rfl ?_
  refine g_aload_n F dX14_isAhead_0 1 rfl rfl ?_
  refine g_aload_n F dX14_isAhead_1 2 rfl rfl ?_
  refine g_callUD (x := ⟨"CurtainRiggers$Cue", "isAheadByNumber", "(LCurtainRiggers$Numbered;)Z"⟩) (owner := "CurtainRiggers$Numbered") F dX14_isAhead_2 mi_X9_isAheadByNumber rfl (F.dfl (List.mem_cons_self) rfl) (F.dfl (List.mem_cons_of_mem _ (List.mem_cons_self)) rfl) (va_Decl.abs (F.nw q772 rfl)) (by decide) q774 (F.land (List.mem_cons_of_mem _ (List.mem_cons_of_mem _ (List.mem_cons_of_mem _ (List.mem_cons_of_mem _ (List.mem_cons_self)))))) gc_X17 ha (ct_X9_isAheadByNumber_X17 ha hz) rfl rfl (nle rfl) (nle rfl) (nle rfl) (g_pur ?_) g_purX
  exact g_zret F dX14_isAhead_5 (by split <;> rfl) (⟨rfl, rfl⟩)
set_option maxHeartbeats 4000000 in
set_option maxRecDepth 100000 in
theorem ct_X14_isAhead_2 {K : gK} {h : AH} {q0 a z : Nat} {b0 b1 b2 b3 zb0 zb1 zb2 zb3 : Int32} (hq : h q0 = some (.inr (14, []))) (ha : h a = some (.inr (12, [.int b0, .int b1, .int b2, .int b3]))) (hz : h z = some (.inr (12, [.int zb0, .int zb1, .int zb2, .int zb3]))) : gCt K yX14_isAhead_2 w_X14_isAhead_2 3 63 0 0 h [.ref q0, .ref a, .ref z] (pR (.int (if b0 < zb0 then 1 else 0)) h) := by
  refine g_meth pf_X14_isAhead_2 (nle rfl) (fun p e s m args below meth c F hnm htb => ?_)
  have F : gFix K p s m args meth c cX14_isAhead_2 3 RX14 (some .boolean) := F
  refine g_eql (lv' := [(0, .ref q0), (1, .ref a), (2, .ref z)]) rfl ?_
  refine g_aload_n F dX14_isAhead_2_0 0 rfl rfl ?_
  refine g_aload_n F dX14_isAhead_2_1 1 rfl rfl ?_
  refine g_castE F q1139 gc_X17 ha dX14_isAhead_2_2 ?_
  refine g_aload_n F dX14_isAhead_2_5 2 rfl rfl ?_
  refine g_castE F q1139 gc_X17 hz dX14_isAhead_2_6 ?_
  refine g_callV F dX14_isAhead_2_9 mi_X14_isAhead q1140 q768 q769 gc_X14 hq (ct_X14_isAhead hq ha hz) rfl rfl (nle rfl) (nle rfl) (nle rfl) (g_pur ?_) g_purX
  exact g_zret F dX14_isAhead_2_12 (by split <;> rfl) (⟨rfl, rfl⟩)
