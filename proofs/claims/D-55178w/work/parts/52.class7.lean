/-! ===== Row.copy (written by tools/class7.py) ===== -/
set_option maxHeartbeats 4000000 in
set_option maxRecDepth 100000 in
theorem ct_X3_copy_X5 {K : gK} {N : Nat → Prop} {h : AH} {r a d n : Nat} {l : Nat → Nat} {md mo : Int32} {b0 b1 b2 b3 b4 b5 b6 : Nat → Int32} (hr : h r = some (.inr (3, [.ref a, .int mo]))) (hl : lsO K N h a d n l md) (hV : tLs h 9 n l (fun i => [.int (b0 i), .int (b1 i), .int (b2 i), .int (b3 i), .int (b4 i), .int (b5 i), .int (b6 i)])) (hn : n ≤ 8) (hKA : gKA K) : gCt K yX3_copy w_X3_copy 7 158 19 185 h [.ref r] (pO (rwC K h 9 n mo (fun i => [.int (b0 i), .int (b1 i), .int (b2 i), .int (b3 i), .int (b4 i), .int (b5 i), .int (b6 i)]))) := by
  refine g_meth pf_X3_copy (nle rfl) (fun p e s m args below meth c F hnm htb => ?_)
  have F : gFix K p s m args meth c cX3_copy 5 RX3 (some (.object "CurtainRiggers$Row")) := F
  refine g_eql (lv' := [(0, .ref r)]) rfl ?_
  refine g_new (fs := [.null, .int 0]) (b := 18) (bs := 183) F in_X3 tyX3 tyX3_ok q340 q133 q71 gc_X3 nf_X3 dX3_copy_0 (fun q1 h_2 hn_e3 ho_e3 e3 => ?_)
  have w4 := gE.no gE.rf hn_e3
  have d5 := gnew hn_e3 (hl).1
  have x6 := gE.new1 gE.rf e3 hn_e3
  have f7 := gu_a e3
  refine g_dup F dX3_copy_3 rfl ?_
  refine g_aload_n F dX3_copy_4 0 rfl rfl ?_
  refine gf_X3_16_X3 (v := .int mo) F dX3_copy_5 (x6 _ _ hr) rfl ?_
  refine g_callI (b := 17) (bs := 180) F dX3_copy_8 mi_X3_init rfl q341 q135 (ct_X3_init f7 ho_e3) rfl rfl (nle rfl) (nle rfl) (nle rfl) (g_pO (fun v8 h_9 p10 => ?_)) g_pOX
  obtain ⟨rfl, a15, hn_e16, ho_e16, e17⟩ := p10
  obtain ⟨h_18, e16⟩ : ∃ h9, h9 = gu h_2 a15 (.inr (4, [.int 0, .ref (gAd K 203), .int 0])) := ⟨_, rfl⟩
  rw [← e16] at e17
  have w19 := gE.no x6 hn_e16
  have d20 := gnew hn_e16 ((lsO.up x6 hl)).1
  have d21 := gnew hn_e16 f7
  have x22 := gE.new1 x6 e16 hn_e16
  have f23 := gu_t e16 f7 d21
  have f24 := gu_a e16
  have x25 := gE.wr1 x22 e17 w4
  have f26 := gu_t e17 f24 (Ne.symm d21)
  have f27 := gu_a e17
  refine g_eqs (st' := [.ref q1]) rfl ?_
  refine g_astore_n (lv' := [(1, .ref q1), (0, .ref r)]) F dX3_copy_11 rfl (by decide) rfl ?_
  refine g_aload_n F dX3_copy_12 1 rfl rfl ?_
  refine gf_X3_10_X3 (v := .ref a) F dX3_copy_13 (x25 _ _ hr) rfl ?_
  refine g_callV (b := 16) (bs := 176) F dX3_copy_16 mi_J2_iterator q342 q343 q344 gc_J2 ((lsO.up x25 hl)).1 (ct_J2_iterator ((lsO.up x25 hl)).1) rfl rfl (nle rfl) (nle rfl) (nle rfl) (g_pO (fun v28 h_29 p30 => ?_)) g_pOX
  obtain ⟨q35, rfl, hn_e36, ho_e36, e36⟩ := p30
  have w37 := gE.no x25 hn_e36
  have d38 := gnew hn_e36 ((lsO.up x25 hl)).1
  have d39 := gnew hn_e36 f26
  have d40 := gnew hn_e36 f27
  have x41 := gE.new1 x25 e36 hn_e36
  have f42 := gu_t e36 f26 d39
  have f43 := gu_t e36 f27 d40
  have f44 := gu_a e36
  refine g_eqs (st' := [.ref q35]) rfl ?_
  refine g_astore_n (lv' := [(2, .ref q35), (1, .ref q1), (0, .ref r)]) F dX3_copy_19 rfl (by decide) rfl ?_
  have hNr : gNw K h q1 := ⟨w4, ho_e3⟩
  have hNq : gNw K h q35 := ⟨w37, ho_e36⟩
  have f45 := lsO_0 (K := K) (N := gNw K h) (l := l) f42 ⟨w19, ho_e16⟩
  have lp : ∀ k, k ≤ n → ∀ (h9 : AH) (lr : Int32) (d9 : Nat) (md9 : Int32) (l9 : Nat → Nat), (gE h h9) → (h9 q1 = some (.inr (3, [.ref a15, .int mo]))) → (h9 q35 = some (.inr (8, [.int (nI k), .int lr, .int md, .ref a]))) → (lsO K (gNw K h) h9 a15 d9 k l9 md9) → (tLs h9 9 k l9 (fun i => [.int (b0 i), .int (b1 i), .int (b2 i), .int (b3 i), .int (b4 i), .int (b5 i), .int (b6 i)])) → (∀ i, i < k → gNw K h (l9 i)) → G K p e s m args below meth c (gRm 7 158 19 185) 5 (pO (rwC K h 9 n mo (fun i => [.int (b0 i), .int (b1 i), .int (b2 i), .int (b3 i), .int (b4 i), .int (b5 i), .int (b6 i)]))) h9 (2 * (8 - k) + 0) (22 * (8 - k) + 0) 20 [(0, .ref r), (1, .ref q1), (2, .ref q35)] [] := by
    refine gloop n (fun k hk ih => ?_)
    intro h9 lr d9 md9 l9 hE9 hr9 hq9 hl9 hT9 hN9
    refine g_aload_n F dX3_copy_20 2 rfl rfl ?_
    refine g_callF (x := ⟨"java/util/Iterator", "hasNext", "()Z"⟩) (b := 2 * (8 - k)) (bs := 22 * (8 - k)) F dX3_copy_21 mi_J8_hasNext rfl q366 2 rfl q385 q383 gc_J8 hq9 (ct_J8_hasNext hq9 (lsO.up hE9 hl).1 (by omega) (by omega)) rfl rfl (nle rfl) (nle rfl) (nle rfl) (g_pur ?_) g_purX
    refine g_if_eq (tgt := 57) F dX3_copy_26 (by decide) (fun c53 => ?_) (fun c53 => ?_)
    · have hkn : k = n := by simpa using c53
      subst hkn
      refine g_room (b' := 0) (bs' := 0) (by omega) (by omega) ?_
      refine g_aload_n F dX3_copy_57 1 rfl rfl ?_
      exact g_aret F dX3_copy_58 (Or.inl ⟨_, rfl⟩) (Or.inr ⟨_, rfl⟩) (⟨_, rfl, q1, a15, d9, l9, md9, rfl, hr9, hNr, hl9, hE9, hT9, hN9⟩)
    · have hlt : k < n := by have : k ≠ n := fun z => c53 (by simp [z]); omega
      refine g_room (b' := (2 * (8 - (k + 1)) + 0) + 2) (bs' := (22 * (8 - (k + 1)) + 0) + 22) (by omega) (by omega) ?_
      refine g_aload_n F dX3_copy_29 2 rfl rfl ?_
      refine g_callF (x := ⟨"java/util/Iterator", "next", "()Ljava/lang/Object;"⟩) (b := (2 * (8 - (k + 1)) + 0) + 2) (bs := (22 * (8 - (k + 1)) + 0) + 22) F dX3_copy_30 mi_J8_next rfl q389 5 rfl q499 q497 gc_J8 hq9 (ct_J8_nextL (lsO.up hE9 hl) hq9 hNq.2 hlt) rfl rfl (nle rfl) (nle rfl) (nle rfl) (g_pur ?_) g_purX
      refine g_gen (fun h_61 e62 => ?_)
      have x63 := gE.wr1 hE9 e62 hNq.1
      have f64 := gu_t e62 hr9 d40
      have t65 := lsO.oth e62 hq9 (by decide) hl9
      have t66 := tLs.oth e62 hq9 (by decide) hT9
      have f67 := gu_a e62
      refine g_castY F q508 gc_X5 q513 (x63 _ _ (hV k hlt)) dX3_copy_35 ?_
      refine g_astore_n (lv' := [(3, .ref (l k)), (0, .ref r), (1, .ref q1), (2, .ref q35)]) F dX3_copy_38 rfl (by decide) rfl ?_
      refine g_aload_n F dX3_copy_39 2 rfl rfl ?_
      refine gf_X3_10_X3 (v := .ref a15) F dX3_copy_40 f64 rfl ?_
      refine g_aload_n F dX3_copy_43 0 rfl rfl ?_
      refine g_callF (x := ⟨"CurtainRiggers$Numbered", "copy", "()LCurtainRiggers$Numbered;"⟩) (b := (2 * (8 - (k + 1)) + 0) + 1) (bs := (22 * (8 - (k + 1)) + 0) + 15) F dX3_copy_44 mi_X5_copy rfl q510 6 rfl q516 q514 gc_X5 (x63 _ _ (hV k hlt)) (ct_X5_copy (x63 _ _ (hV k hlt))) rfl rfl (nle rfl) (nle rfl) (nle rfl) (g_pO (fun v68 h_69 p70 => ?_)) g_pOX
      obtain ⟨q75, rfl, hn_e76, ho_e76, e76⟩ := p70
      have w77 := gE.no x63 hn_e76
      have d78 := gnew hn_e76 ((lsO.up x63 hl)).1
      have d79 := gnew hn_e76 f64
      have d80 := gnew hn_e76 (t65).1
      have d81 := gnew hn_e76 f67
      have x82 := gE.new1 x63 e76 hn_e76
      have f83 := gu_t e76 f64 d79
      have f84 := gu_t e76 f67 d81
      have t85 := lsO.up (gE.new1 gE.rf e76 hn_e76) t65
      have t86 := tLs.up (gE.new1 gE.rf e76 hn_e76) t66
      have f87 := gu_a e76
      refine g_eqs (st' := [.ref q75, .ref a15]) rfl ?_
      refine g_callV (b := (2 * (8 - (k + 1)) + 0)) (bs := (22 * (8 - (k + 1)) + 0)) F dX3_copy_49 mi_J2_add q644 q645 q646 gc_J2 (t85).1 (ct_J2_addL (h0 := h) t85 x82 (by omega) (fun i hi => gOb_b (t86 i hi)) (gOb_b f87) hKA) rfl rfl (nle rfl) (nle rfl) (nle rfl) (g_pO (fun v88 h_89 p90 => ?_)) g_pOX
      obtain ⟨rfl, p90⟩ := p90
      have x95 := lsG.E p90
      have f96 := lsG.ob p90 t85 f83 (by decide)
      have f97 := lsG.ob p90 t85 f84 (by decide)
      have f98 := lsG.ob p90 t85 f87 (by decide)
      have t99 := tLs.G p90 t85 (by decide) t86
      obtain ⟨d100, m101, l102, -, hd_d100, hk_d100⟩ := p90
      refine g_eqs (st' := [.int 1]) rfl ?_
      refine g_istore (lv' := [(4, .int 1), (3, .ref (l k)), (0, .ref r), (1, .ref q1), (2, .ref q35)]) F dX3_copy_52 (by decide) rfl ?_
      refine g_goto (tgt := 20) F dX3_copy_54 (by decide) ?_
      refine g_lv (lv' := [(0, .ref r), (1, .ref q1), (2, .ref q35)]) [2, 3, 4] rfl ?_
      refine g_room (b' := (2 * (8 - (k + 1)) + 0)) (bs' := (22 * (8 - (k + 1)) + 0)) (by omega) (by omega) ?_
      exact g_eql (lv' := [(0, .ref r), (1, .ref q1), (2, .ref q35)]) (by rfl) (ih hlt h_89 (nI k) d100 m101 (lsP l9 k q75) x95 f96 f97 l102 (tLs.add t99 f98) (nwP hN9 ⟨w77, ho_e76⟩))
  refine g_lv (lv' := [(0, .ref r), (1, .ref q1), (2, .ref q35)]) [2, 1, 0] rfl ?_
  exact lp 0 (Nat.zero_le _) h_29 (-1) (gAd K 203) 0 l x41 f43 f44 (f45) tLs.n0 (fun i hi => absurd hi (Nat.not_lt_zero i))
set_option maxHeartbeats 4000000 in
set_option maxRecDepth 100000 in
theorem ct_X3_copy_X6 {K : gK} {N : Nat → Prop} {h : AH} {r a d n : Nat} {l : Nat → Nat} {md mo : Int32} {b0 b1 b2 : Nat → Int32} (hr : h r = some (.inr (3, [.ref a, .int mo]))) (hl : lsO K N h a d n l md) (hV : tLs h 10 n l (fun i => [.int (b0 i), .int (b1 i), .int (b2 i)])) (hn : n ≤ 12) (hKA : gKA K) : gCt K yX3_copy w_X3_copy 7 158 27 225 h [.ref r] (pO (rwC K h 10 n mo (fun i => [.int (b0 i), .int (b1 i), .int (b2 i)]))) := by
  refine g_meth pf_X3_copy (nle rfl) (fun p e s m args below meth c F hnm htb => ?_)
  have F : gFix K p s m args meth c cX3_copy 5 RX3 (some (.object "CurtainRiggers$Row")) := F
  refine g_eql (lv' := [(0, .ref r)]) rfl ?_
  refine g_new (fs := [.null, .int 0]) (b := 26) (bs := 223) F in_X3 tyX3 tyX3_ok q340 q133 q71 gc_X3 nf_X3 dX3_copy_0 (fun q1 h_2 hn_e3 ho_e3 e3 => ?_)
  have w4 := gE.no gE.rf hn_e3
  have d5 := gnew hn_e3 (hl).1
  have x6 := gE.new1 gE.rf e3 hn_e3
  have f7 := gu_a e3
  refine g_dup F dX3_copy_3 rfl ?_
  refine g_aload_n F dX3_copy_4 0 rfl rfl ?_
  refine gf_X3_16_X3 (v := .int mo) F dX3_copy_5 (x6 _ _ hr) rfl ?_
  refine g_callI (b := 25) (bs := 220) F dX3_copy_8 mi_X3_init rfl q341 q135 (ct_X3_init f7 ho_e3) rfl rfl (nle rfl) (nle rfl) (nle rfl) (g_pO (fun v8 h_9 p10 => ?_)) g_pOX
  obtain ⟨rfl, a15, hn_e16, ho_e16, e17⟩ := p10
  obtain ⟨h_18, e16⟩ : ∃ h9, h9 = gu h_2 a15 (.inr (4, [.int 0, .ref (gAd K 203), .int 0])) := ⟨_, rfl⟩
  rw [← e16] at e17
  have w19 := gE.no x6 hn_e16
  have d20 := gnew hn_e16 ((lsO.up x6 hl)).1
  have d21 := gnew hn_e16 f7
  have x22 := gE.new1 x6 e16 hn_e16
  have f23 := gu_t e16 f7 d21
  have f24 := gu_a e16
  have x25 := gE.wr1 x22 e17 w4
  have f26 := gu_t e17 f24 (Ne.symm d21)
  have f27 := gu_a e17
  refine g_eqs (st' := [.ref q1]) rfl ?_
  refine g_astore_n (lv' := [(1, .ref q1), (0, .ref r)]) F dX3_copy_11 rfl (by decide) rfl ?_
  refine g_aload_n F dX3_copy_12 1 rfl rfl ?_
  refine gf_X3_10_X3 (v := .ref a) F dX3_copy_13 (x25 _ _ hr) rfl ?_
  refine g_callV (b := 24) (bs := 216) F dX3_copy_16 mi_J2_iterator q342 q343 q344 gc_J2 ((lsO.up x25 hl)).1 (ct_J2_iterator ((lsO.up x25 hl)).1) rfl rfl (nle rfl) (nle rfl) (nle rfl) (g_pO (fun v28 h_29 p30 => ?_)) g_pOX
  obtain ⟨q35, rfl, hn_e36, ho_e36, e36⟩ := p30
  have w37 := gE.no x25 hn_e36
  have d38 := gnew hn_e36 ((lsO.up x25 hl)).1
  have d39 := gnew hn_e36 f26
  have d40 := gnew hn_e36 f27
  have x41 := gE.new1 x25 e36 hn_e36
  have f42 := gu_t e36 f26 d39
  have f43 := gu_t e36 f27 d40
  have f44 := gu_a e36
  refine g_eqs (st' := [.ref q35]) rfl ?_
  refine g_astore_n (lv' := [(2, .ref q35), (1, .ref q1), (0, .ref r)]) F dX3_copy_19 rfl (by decide) rfl ?_
  have hNr : gNw K h q1 := ⟨w4, ho_e3⟩
  have hNq : gNw K h q35 := ⟨w37, ho_e36⟩
  have f45 := lsO_0 (K := K) (N := gNw K h) (l := l) f42 ⟨w19, ho_e16⟩
  have lp : ∀ k, k ≤ n → ∀ (h9 : AH) (lr : Int32) (d9 : Nat) (md9 : Int32) (l9 : Nat → Nat), (gE h h9) → (h9 q1 = some (.inr (3, [.ref a15, .int mo]))) → (h9 q35 = some (.inr (8, [.int (nI k), .int lr, .int md, .ref a]))) → (lsO K (gNw K h) h9 a15 d9 k l9 md9) → (tLs h9 10 k l9 (fun i => [.int (b0 i), .int (b1 i), .int (b2 i)])) → (∀ i, i < k → gNw K h (l9 i)) → G K p e s m args below meth c (gRm 7 158 27 225) 5 (pO (rwC K h 10 n mo (fun i => [.int (b0 i), .int (b1 i), .int (b2 i)]))) h9 (2 * (12 - k) + 0) (18 * (12 - k) + 0) 20 [(0, .ref r), (1, .ref q1), (2, .ref q35)] [] := by
    refine gloop n (fun k hk ih => ?_)
    intro h9 lr d9 md9 l9 hE9 hr9 hq9 hl9 hT9 hN9
    refine g_aload_n F dX3_copy_20 2 rfl rfl ?_
    refine g_callF (x := ⟨"java/util/Iterator", "hasNext", "()Z"⟩) (b := 2 * (12 - k)) (bs := 18 * (12 - k)) F dX3_copy_21 mi_J8_hasNext rfl q366 2 rfl q385 q383 gc_J8 hq9 (ct_J8_hasNext hq9 (lsO.up hE9 hl).1 (by omega) (by omega)) rfl rfl (nle rfl) (nle rfl) (nle rfl) (g_pur ?_) g_purX
    refine g_if_eq (tgt := 57) F dX3_copy_26 (by decide) (fun c53 => ?_) (fun c53 => ?_)
    · have hkn : k = n := by simpa using c53
      subst hkn
      refine g_room (b' := 0) (bs' := 0) (by omega) (by omega) ?_
      refine g_aload_n F dX3_copy_57 1 rfl rfl ?_
      exact g_aret F dX3_copy_58 (Or.inl ⟨_, rfl⟩) (Or.inr ⟨_, rfl⟩) (⟨_, rfl, q1, a15, d9, l9, md9, rfl, hr9, hNr, hl9, hE9, hT9, hN9⟩)
    · have hlt : k < n := by have : k ≠ n := fun z => c53 (by simp [z]); omega
      refine g_room (b' := (2 * (12 - (k + 1)) + 0) + 2) (bs' := (18 * (12 - (k + 1)) + 0) + 18) (by omega) (by omega) ?_
      refine g_aload_n F dX3_copy_29 2 rfl rfl ?_
      refine g_callF (x := ⟨"java/util/Iterator", "next", "()Ljava/lang/Object;"⟩) (b := (2 * (12 - (k + 1)) + 0) + 2) (bs := (18 * (12 - (k + 1)) + 0) + 18) F dX3_copy_30 mi_J8_next rfl q389 5 rfl q499 q497 gc_J8 hq9 (ct_J8_nextL (lsO.up hE9 hl) hq9 hNq.2 hlt) rfl rfl (nle rfl) (nle rfl) (nle rfl) (g_pur ?_) g_purX
      refine g_gen (fun h_61 e62 => ?_)
      have x63 := gE.wr1 hE9 e62 hNq.1
      have f64 := gu_t e62 hr9 d40
      have t65 := lsO.oth e62 hq9 (by decide) hl9
      have t66 := tLs.oth e62 hq9 (by decide) hT9
      have f67 := gu_a e62
      refine g_castY F q508 gc_X6 q581 (x63 _ _ (hV k hlt)) dX3_copy_35 ?_
      refine g_astore_n (lv' := [(3, .ref (l k)), (0, .ref r), (1, .ref q1), (2, .ref q35)]) F dX3_copy_38 rfl (by decide) rfl ?_
      refine g_aload_n F dX3_copy_39 2 rfl rfl ?_
      refine gf_X3_10_X3 (v := .ref a15) F dX3_copy_40 f64 rfl ?_
      refine g_aload_n F dX3_copy_43 0 rfl rfl ?_
      refine g_callF (x := ⟨"CurtainRiggers$Numbered", "copy", "()LCurtainRiggers$Numbered;"⟩) (b := (2 * (12 - (k + 1)) + 0) + 1) (bs := (18 * (12 - (k + 1)) + 0) + 15) F dX3_copy_44 mi_X6_copy rfl q510 8 rfl q584 q582 gc_X6 (x63 _ _ (hV k hlt)) (ct_X6_copy (x63 _ _ (hV k hlt))) rfl rfl (nle rfl) (nle rfl) (nle rfl) (g_pO (fun v68 h_69 p70 => ?_)) g_pOX
      obtain ⟨q75, rfl, hn_e76, ho_e76, e76⟩ := p70
      have w77 := gE.no x63 hn_e76
      have d78 := gnew hn_e76 ((lsO.up x63 hl)).1
      have d79 := gnew hn_e76 f64
      have d80 := gnew hn_e76 (t65).1
      have d81 := gnew hn_e76 f67
      have x82 := gE.new1 x63 e76 hn_e76
      have f83 := gu_t e76 f64 d79
      have f84 := gu_t e76 f67 d81
      have t85 := lsO.up (gE.new1 gE.rf e76 hn_e76) t65
      have t86 := tLs.up (gE.new1 gE.rf e76 hn_e76) t66
      have f87 := gu_a e76
      refine g_eqs (st' := [.ref q75, .ref a15]) rfl ?_
      refine g_callV (b := (2 * (12 - (k + 1)) + 0)) (bs := (18 * (12 - (k + 1)) + 0)) F dX3_copy_49 mi_J2_add q644 q645 q646 gc_J2 (t85).1 (ct_J2_addL (h0 := h) t85 x82 (by omega) (fun i hi => gOb_c (t86 i hi)) (gOb_c f87) hKA) rfl rfl (nle rfl) (nle rfl) (nle rfl) (g_pO (fun v88 h_89 p90 => ?_)) g_pOX
      obtain ⟨rfl, p90⟩ := p90
      have x95 := lsG.E p90
      have f96 := lsG.ob p90 t85 f83 (by decide)
      have f97 := lsG.ob p90 t85 f84 (by decide)
      have f98 := lsG.ob p90 t85 f87 (by decide)
      have t99 := tLs.G p90 t85 (by decide) t86
      obtain ⟨d100, m101, l102, -, hd_d100, hk_d100⟩ := p90
      refine g_eqs (st' := [.int 1]) rfl ?_
      refine g_istore (lv' := [(4, .int 1), (3, .ref (l k)), (0, .ref r), (1, .ref q1), (2, .ref q35)]) F dX3_copy_52 (by decide) rfl ?_
      refine g_goto (tgt := 20) F dX3_copy_54 (by decide) ?_
      refine g_lv (lv' := [(0, .ref r), (1, .ref q1), (2, .ref q35)]) [2, 3, 4] rfl ?_
      refine g_room (b' := (2 * (12 - (k + 1)) + 0)) (bs' := (18 * (12 - (k + 1)) + 0)) (by omega) (by omega) ?_
      exact g_eql (lv' := [(0, .ref r), (1, .ref q1), (2, .ref q35)]) (by rfl) (ih hlt h_89 (nI k) d100 m101 (lsP l9 k q75) x95 f96 f97 l102 (tLs.add t99 f98) (nwP hN9 ⟨w77, ho_e76⟩))
  refine g_lv (lv' := [(0, .ref r), (1, .ref q1), (2, .ref q35)]) [2, 1, 0] rfl ?_
  exact lp 0 (Nat.zero_le _) h_29 (-1) (gAd K 203) 0 l x41 f43 f44 (f45) tLs.n0 (fun i hi => absurd hi (Nat.not_lt_zero i))
set_option maxHeartbeats 4000000 in
set_option maxRecDepth 100000 in
theorem ct_X3_copy_X7 {K : gK} {N : Nat → Prop} {h : AH} {r a d n : Nat} {l : Nat → Nat} {md mo : Int32} {b0 b1 b2 : Nat → Int32} (hr : h r = some (.inr (3, [.ref a, .int mo]))) (hl : lsO K N h a d n l md) (hV : tLs h 11 n l (fun i => [.int (b0 i), .int (b1 i), .int (b2 i)])) (hn : n ≤ 6) (hKA : gKA K) : gCt K yX3_copy w_X3_copy 7 158 15 117 h [.ref r] (pO (rwC K h 11 n mo (fun i => [.int (b0 i), .int (b1 i), .int (b2 i)]))) := by
  refine g_meth pf_X3_copy (nle rfl) (fun p e s m args below meth c F hnm htb => ?_)
  have F : gFix K p s m args meth c cX3_copy 5 RX3 (some (.object "CurtainRiggers$Row")) := F
  refine g_eql (lv' := [(0, .ref r)]) rfl ?_
  refine g_new (fs := [.null, .int 0]) (b := 14) (bs := 115) F in_X3 tyX3 tyX3_ok q340 q133 q71 gc_X3 nf_X3 dX3_copy_0 (fun q1 h_2 hn_e3 ho_e3 e3 => ?_)
  have w4 := gE.no gE.rf hn_e3
  have d5 := gnew hn_e3 (hl).1
  have x6 := gE.new1 gE.rf e3 hn_e3
  have f7 := gu_a e3
  refine g_dup F dX3_copy_3 rfl ?_
  refine g_aload_n F dX3_copy_4 0 rfl rfl ?_
  refine gf_X3_16_X3 (v := .int mo) F dX3_copy_5 (x6 _ _ hr) rfl ?_
  refine g_callI (b := 13) (bs := 112) F dX3_copy_8 mi_X3_init rfl q341 q135 (ct_X3_init f7 ho_e3) rfl rfl (nle rfl) (nle rfl) (nle rfl) (g_pO (fun v8 h_9 p10 => ?_)) g_pOX
  obtain ⟨rfl, a15, hn_e16, ho_e16, e17⟩ := p10
  obtain ⟨h_18, e16⟩ : ∃ h9, h9 = gu h_2 a15 (.inr (4, [.int 0, .ref (gAd K 203), .int 0])) := ⟨_, rfl⟩
  rw [← e16] at e17
  have w19 := gE.no x6 hn_e16
  have d20 := gnew hn_e16 ((lsO.up x6 hl)).1
  have d21 := gnew hn_e16 f7
  have x22 := gE.new1 x6 e16 hn_e16
  have f23 := gu_t e16 f7 d21
  have f24 := gu_a e16
  have x25 := gE.wr1 x22 e17 w4
  have f26 := gu_t e17 f24 (Ne.symm d21)
  have f27 := gu_a e17
  refine g_eqs (st' := [.ref q1]) rfl ?_
  refine g_astore_n (lv' := [(1, .ref q1), (0, .ref r)]) F dX3_copy_11 rfl (by decide) rfl ?_
  refine g_aload_n F dX3_copy_12 1 rfl rfl ?_
  refine gf_X3_10_X3 (v := .ref a) F dX3_copy_13 (x25 _ _ hr) rfl ?_
  refine g_callV (b := 12) (bs := 108) F dX3_copy_16 mi_J2_iterator q342 q343 q344 gc_J2 ((lsO.up x25 hl)).1 (ct_J2_iterator ((lsO.up x25 hl)).1) rfl rfl (nle rfl) (nle rfl) (nle rfl) (g_pO (fun v28 h_29 p30 => ?_)) g_pOX
  obtain ⟨q35, rfl, hn_e36, ho_e36, e36⟩ := p30
  have w37 := gE.no x25 hn_e36
  have d38 := gnew hn_e36 ((lsO.up x25 hl)).1
  have d39 := gnew hn_e36 f26
  have d40 := gnew hn_e36 f27
  have x41 := gE.new1 x25 e36 hn_e36
  have f42 := gu_t e36 f26 d39
  have f43 := gu_t e36 f27 d40
  have f44 := gu_a e36
  refine g_eqs (st' := [.ref q35]) rfl ?_
  refine g_astore_n (lv' := [(2, .ref q35), (1, .ref q1), (0, .ref r)]) F dX3_copy_19 rfl (by decide) rfl ?_
  have hNr : gNw K h q1 := ⟨w4, ho_e3⟩
  have hNq : gNw K h q35 := ⟨w37, ho_e36⟩
  have f45 := lsO_0 (K := K) (N := gNw K h) (l := l) f42 ⟨w19, ho_e16⟩
  have lp : ∀ k, k ≤ n → ∀ (h9 : AH) (lr : Int32) (d9 : Nat) (md9 : Int32) (l9 : Nat → Nat), (gE h h9) → (h9 q1 = some (.inr (3, [.ref a15, .int mo]))) → (h9 q35 = some (.inr (8, [.int (nI k), .int lr, .int md, .ref a]))) → (lsO K (gNw K h) h9 a15 d9 k l9 md9) → (tLs h9 11 k l9 (fun i => [.int (b0 i), .int (b1 i), .int (b2 i)])) → (∀ i, i < k → gNw K h (l9 i)) → G K p e s m args below meth c (gRm 7 158 15 117) 5 (pO (rwC K h 11 n mo (fun i => [.int (b0 i), .int (b1 i), .int (b2 i)]))) h9 (2 * (6 - k) + 0) (18 * (6 - k) + 0) 20 [(0, .ref r), (1, .ref q1), (2, .ref q35)] [] := by
    refine gloop n (fun k hk ih => ?_)
    intro h9 lr d9 md9 l9 hE9 hr9 hq9 hl9 hT9 hN9
    refine g_aload_n F dX3_copy_20 2 rfl rfl ?_
    refine g_callF (x := ⟨"java/util/Iterator", "hasNext", "()Z"⟩) (b := 2 * (6 - k)) (bs := 18 * (6 - k)) F dX3_copy_21 mi_J8_hasNext rfl q366 2 rfl q385 q383 gc_J8 hq9 (ct_J8_hasNext hq9 (lsO.up hE9 hl).1 (by omega) (by omega)) rfl rfl (nle rfl) (nle rfl) (nle rfl) (g_pur ?_) g_purX
    refine g_if_eq (tgt := 57) F dX3_copy_26 (by decide) (fun c53 => ?_) (fun c53 => ?_)
    · have hkn : k = n := by simpa using c53
      subst hkn
      refine g_room (b' := 0) (bs' := 0) (by omega) (by omega) ?_
      refine g_aload_n F dX3_copy_57 1 rfl rfl ?_
      exact g_aret F dX3_copy_58 (Or.inl ⟨_, rfl⟩) (Or.inr ⟨_, rfl⟩) (⟨_, rfl, q1, a15, d9, l9, md9, rfl, hr9, hNr, hl9, hE9, hT9, hN9⟩)
    · have hlt : k < n := by have : k ≠ n := fun z => c53 (by simp [z]); omega
      refine g_room (b' := (2 * (6 - (k + 1)) + 0) + 2) (bs' := (18 * (6 - (k + 1)) + 0) + 18) (by omega) (by omega) ?_
      refine g_aload_n F dX3_copy_29 2 rfl rfl ?_
      refine g_callF (x := ⟨"java/util/Iterator", "next", "()Ljava/lang/Object;"⟩) (b := (2 * (6 - (k + 1)) + 0) + 2) (bs := (18 * (6 - (k + 1)) + 0) + 18) F dX3_copy_30 mi_J8_next rfl q389 5 rfl q499 q497 gc_J8 hq9 (ct_J8_nextL (lsO.up hE9 hl) hq9 hNq.2 hlt) rfl rfl (nle rfl) (nle rfl) (nle rfl) (g_pur ?_) g_purX
      refine g_gen (fun h_61 e62 => ?_)
      have x63 := gE.wr1 hE9 e62 hNq.1
      have f64 := gu_t e62 hr9 d40
      have t65 := lsO.oth e62 hq9 (by decide) hl9
      have t66 := tLs.oth e62 hq9 (by decide) hT9
      have f67 := gu_a e62
      refine g_castY F q508 gc_X7 q615 (x63 _ _ (hV k hlt)) dX3_copy_35 ?_
      refine g_astore_n (lv' := [(3, .ref (l k)), (0, .ref r), (1, .ref q1), (2, .ref q35)]) F dX3_copy_38 rfl (by decide) rfl ?_
      refine g_aload_n F dX3_copy_39 2 rfl rfl ?_
      refine gf_X3_10_X3 (v := .ref a15) F dX3_copy_40 f64 rfl ?_
      refine g_aload_n F dX3_copy_43 0 rfl rfl ?_
      refine g_callF (x := ⟨"CurtainRiggers$Numbered", "copy", "()LCurtainRiggers$Numbered;"⟩) (b := (2 * (6 - (k + 1)) + 0) + 1) (bs := (18 * (6 - (k + 1)) + 0) + 15) F dX3_copy_44 mi_X7_copy rfl q510 9 rfl q618 q616 gc_X7 (x63 _ _ (hV k hlt)) (ct_X7_copy (x63 _ _ (hV k hlt))) rfl rfl (nle rfl) (nle rfl) (nle rfl) (g_pO (fun v68 h_69 p70 => ?_)) g_pOX
      obtain ⟨q75, rfl, hn_e76, ho_e76, e76⟩ := p70
      have w77 := gE.no x63 hn_e76
      have d78 := gnew hn_e76 ((lsO.up x63 hl)).1
      have d79 := gnew hn_e76 f64
      have d80 := gnew hn_e76 (t65).1
      have d81 := gnew hn_e76 f67
      have x82 := gE.new1 x63 e76 hn_e76
      have f83 := gu_t e76 f64 d79
      have f84 := gu_t e76 f67 d81
      have t85 := lsO.up (gE.new1 gE.rf e76 hn_e76) t65
      have t86 := tLs.up (gE.new1 gE.rf e76 hn_e76) t66
      have f87 := gu_a e76
      refine g_eqs (st' := [.ref q75, .ref a15]) rfl ?_
      refine g_callV (b := (2 * (6 - (k + 1)) + 0)) (bs := (18 * (6 - (k + 1)) + 0)) F dX3_copy_49 mi_J2_add q644 q645 q646 gc_J2 (t85).1 (ct_J2_addL (h0 := h) t85 x82 (by omega) (fun i hi => gOb_h (t86 i hi)) (gOb_h f87) hKA) rfl rfl (nle rfl) (nle rfl) (nle rfl) (g_pO (fun v88 h_89 p90 => ?_)) g_pOX
      obtain ⟨rfl, p90⟩ := p90
      have x95 := lsG.E p90
      have f96 := lsG.ob p90 t85 f83 (by decide)
      have f97 := lsG.ob p90 t85 f84 (by decide)
      have f98 := lsG.ob p90 t85 f87 (by decide)
      have t99 := tLs.G p90 t85 (by decide) t86
      obtain ⟨d100, m101, l102, -, hd_d100, hk_d100⟩ := p90
      refine g_eqs (st' := [.int 1]) rfl ?_
      refine g_istore (lv' := [(4, .int 1), (3, .ref (l k)), (0, .ref r), (1, .ref q1), (2, .ref q35)]) F dX3_copy_52 (by decide) rfl ?_
      refine g_goto (tgt := 20) F dX3_copy_54 (by decide) ?_
      refine g_lv (lv' := [(0, .ref r), (1, .ref q1), (2, .ref q35)]) [2, 3, 4] rfl ?_
      refine g_room (b' := (2 * (6 - (k + 1)) + 0)) (bs' := (18 * (6 - (k + 1)) + 0)) (by omega) (by omega) ?_
      exact g_eql (lv' := [(0, .ref r), (1, .ref q1), (2, .ref q35)]) (by rfl) (ih hlt h_89 (nI k) d100 m101 (lsP l9 k q75) x95 f96 f97 l102 (tLs.add t99 f98) (nwP hN9 ⟨w77, ho_e76⟩))
  refine g_lv (lv' := [(0, .ref r), (1, .ref q1), (2, .ref q35)]) [2, 1, 0] rfl ?_
  exact lp 0 (Nat.zero_le _) h_29 (-1) (gAd K 203) 0 l x41 f43 f44 (f45) tLs.n0 (fun i hi => absurd hi (Nat.not_lt_zero i))
set_option maxHeartbeats 4000000 in
set_option maxRecDepth 100000 in
theorem ct_X3_copy_X17 {K : gK} {N : Nat → Prop} {h : AH} {r a d n : Nat} {l : Nat → Nat} {md mo : Int32} {b0 b1 b2 b3 : Nat → Int32} (hr : h r = some (.inr (3, [.ref a, .int mo]))) (hl : lsO K N h a d n l md) (hV : tLs h 12 n l (fun i => [.int (b0 i), .int (b1 i), .int (b2 i), .int (b3 i)])) (hn : n ≤ 12) (hKA : gKA K) : gCt K yX3_copy w_X3_copy 7 158 15 189 h [.ref r] (pO (rwS K h n mo l)) := by
  refine g_meth pf_X3_copy (nle rfl) (fun p e s m args below meth c F hnm htb => ?_)
  have F : gFix K p s m args meth c cX3_copy 5 RX3 (some (.object "CurtainRiggers$Row")) := F
  refine g_eql (lv' := [(0, .ref r)]) rfl ?_
  refine g_new (fs := [.null, .int 0]) (b := 14) (bs := 187) F in_X3 tyX3 tyX3_ok q340 q133 q71 gc_X3 nf_X3 dX3_copy_0 (fun q1 h_2 hn_e3 ho_e3 e3 => ?_)
  have w4 := gE.no gE.rf hn_e3
  have d5 := gnew hn_e3 (hl).1
  have x6 := gE.new1 gE.rf e3 hn_e3
  have f7 := gu_a e3
  refine g_dup F dX3_copy_3 rfl ?_
  refine g_aload_n F dX3_copy_4 0 rfl rfl ?_
  refine gf_X3_16_X3 (v := .int mo) F dX3_copy_5 (x6 _ _ hr) rfl ?_
  refine g_callI (b := 13) (bs := 184) F dX3_copy_8 mi_X3_init rfl q341 q135 (ct_X3_init f7 ho_e3) rfl rfl (nle rfl) (nle rfl) (nle rfl) (g_pO (fun v8 h_9 p10 => ?_)) g_pOX
  obtain ⟨rfl, a15, hn_e16, ho_e16, e17⟩ := p10
  obtain ⟨h_18, e16⟩ : ∃ h9, h9 = gu h_2 a15 (.inr (4, [.int 0, .ref (gAd K 203), .int 0])) := ⟨_, rfl⟩
  rw [← e16] at e17
  have w19 := gE.no x6 hn_e16
  have d20 := gnew hn_e16 ((lsO.up x6 hl)).1
  have d21 := gnew hn_e16 f7
  have x22 := gE.new1 x6 e16 hn_e16
  have f23 := gu_t e16 f7 d21
  have f24 := gu_a e16
  have x25 := gE.wr1 x22 e17 w4
  have f26 := gu_t e17 f24 (Ne.symm d21)
  have f27 := gu_a e17
  refine g_eqs (st' := [.ref q1]) rfl ?_
  refine g_astore_n (lv' := [(1, .ref q1), (0, .ref r)]) F dX3_copy_11 rfl (by decide) rfl ?_
  refine g_aload_n F dX3_copy_12 1 rfl rfl ?_
  refine gf_X3_10_X3 (v := .ref a) F dX3_copy_13 (x25 _ _ hr) rfl ?_
  refine g_callV (b := 12) (bs := 180) F dX3_copy_16 mi_J2_iterator q342 q343 q344 gc_J2 ((lsO.up x25 hl)).1 (ct_J2_iterator ((lsO.up x25 hl)).1) rfl rfl (nle rfl) (nle rfl) (nle rfl) (g_pO (fun v28 h_29 p30 => ?_)) g_pOX
  obtain ⟨q35, rfl, hn_e36, ho_e36, e36⟩ := p30
  have w37 := gE.no x25 hn_e36
  have d38 := gnew hn_e36 ((lsO.up x25 hl)).1
  have d39 := gnew hn_e36 f26
  have d40 := gnew hn_e36 f27
  have x41 := gE.new1 x25 e36 hn_e36
  have f42 := gu_t e36 f26 d39
  have f43 := gu_t e36 f27 d40
  have f44 := gu_a e36
  refine g_eqs (st' := [.ref q35]) rfl ?_
  refine g_astore_n (lv' := [(2, .ref q35), (1, .ref q1), (0, .ref r)]) F dX3_copy_19 rfl (by decide) rfl ?_
  have hNr : gNw K h q1 := ⟨w4, ho_e3⟩
  have hNq : gNw K h q35 := ⟨w37, ho_e36⟩
  have f45 := lsO_0 (K := K) (N := gNw K h) (l := l) f42 ⟨w19, ho_e16⟩
  have lp : ∀ k, k ≤ n → ∀ (h9 : AH) (lr : Int32) (d9 : Nat) (md9 : Int32), (gE h h9) → (h9 q1 = some (.inr (3, [.ref a15, .int mo]))) → (h9 q35 = some (.inr (8, [.int (nI k), .int lr, .int md, .ref a]))) → (lsO K (gNw K h) h9 a15 d9 k l md9) → G K p e s m args below meth c (gRm 7 158 15 189) 5 (pO (rwS K h n mo l)) h9 (1 * (12 - k) + 0) (15 * (12 - k) + 0) 20 [(0, .ref r), (1, .ref q1), (2, .ref q35)] [] := by
    refine gloop n (fun k hk ih => ?_)
    intro h9 lr d9 md9 hE9 hr9 hq9 hl9
    refine g_aload_n F dX3_copy_20 2 rfl rfl ?_
    refine g_callF (x := ⟨"java/util/Iterator", "hasNext", "()Z"⟩) (b := 1 * (12 - k)) (bs := 15 * (12 - k)) F dX3_copy_21 mi_J8_hasNext rfl q366 2 rfl q385 q383 gc_J8 hq9 (ct_J8_hasNext hq9 (lsO.up hE9 hl).1 (by omega) (by omega)) rfl rfl (nle rfl) (nle rfl) (nle rfl) (g_pur ?_) g_purX
    refine g_if_eq (tgt := 57) F dX3_copy_26 (by decide) (fun c53 => ?_) (fun c53 => ?_)
    · have hkn : k = n := by simpa using c53
      subst hkn
      refine g_room (b' := 0) (bs' := 0) (by omega) (by omega) ?_
      refine g_aload_n F dX3_copy_57 1 rfl rfl ?_
      exact g_aret F dX3_copy_58 (Or.inl ⟨_, rfl⟩) (Or.inr ⟨_, rfl⟩) (⟨_, rfl, q1, a15, d9, md9, rfl, hr9, hNr, hl9, hE9⟩)
    · have hlt : k < n := by have : k ≠ n := fun z => c53 (by simp [z]); omega
      refine g_room (b' := (1 * (12 - (k + 1)) + 0) + 1) (bs' := (15 * (12 - (k + 1)) + 0) + 15) (by omega) (by omega) ?_
      refine g_aload_n F dX3_copy_29 2 rfl rfl ?_
      refine g_callF (x := ⟨"java/util/Iterator", "next", "()Ljava/lang/Object;"⟩) (b := (1 * (12 - (k + 1)) + 0) + 1) (bs := (15 * (12 - (k + 1)) + 0) + 15) F dX3_copy_30 mi_J8_next rfl q389 5 rfl q499 q497 gc_J8 hq9 (ct_J8_nextL (lsO.up hE9 hl) hq9 hNq.2 hlt) rfl rfl (nle rfl) (nle rfl) (nle rfl) (g_pur ?_) g_purX
      refine g_gen (fun h_61 e62 => ?_)
      have x63 := gE.wr1 hE9 e62 hNq.1
      have f64 := gu_t e62 hr9 d40
      have t65 := lsO.oth e62 hq9 (by decide) hl9
      have f66 := gu_a e62
      refine g_castY F q508 gc_X17 q571 (x63 _ _ (hV k hlt)) dX3_copy_35 ?_
      refine g_astore_n (lv' := [(3, .ref (l k)), (0, .ref r), (1, .ref q1), (2, .ref q35)]) F dX3_copy_38 rfl (by decide) rfl ?_
      refine g_aload_n F dX3_copy_39 2 rfl rfl ?_
      refine gf_X3_10_X3 (v := .ref a15) F dX3_copy_40 f64 rfl ?_
      refine g_aload_n F dX3_copy_43 0 rfl rfl ?_
      refine g_callF (x := ⟨"CurtainRiggers$Numbered", "copy", "()LCurtainRiggers$Numbered;"⟩) (b := (1 * (12 - (k + 1)) + 0) + 1) (bs := (15 * (12 - (k + 1)) + 0) + 15) F dX3_copy_44 mi_X17_copy rfl q510 7 rfl q574 q572 gc_X17 (x63 _ _ (hV k hlt)) (ct_X17_copy (x63 _ _ (hV k hlt))) rfl rfl (nle rfl) (nle rfl) (nle rfl) (g_pur ?_) g_purX
      refine g_callV (b := (1 * (12 - (k + 1)) + 0)) (bs := (15 * (12 - (k + 1)) + 0)) F dX3_copy_49 mi_J2_add q644 q645 q646 gc_J2 (t65).1 (ct_J2_addL (h0 := h) t65 x63 (by omega) (fun i hi => gOb_q (x63 _ _ (hV i (by omega)))) (gOb_q (x63 _ _ (hV k hlt))) hKA) rfl rfl (nle rfl) (nle rfl) (nle rfl) (g_pO (fun v74 h_75 p76 => ?_)) g_pOX
      obtain ⟨rfl, p76⟩ := p76
      have x81 := lsG.E p76
      have f82 := lsG.ob p76 t65 f64 (by decide)
      have f83 := lsG.ob p76 t65 f66 (by decide)
      obtain ⟨d84, m85, l86, -, hd_d84, hk_d84⟩ := p76
      refine g_eqs (st' := [.int 1]) rfl ?_
      refine g_istore (lv' := [(4, .int 1), (3, .ref (l k)), (0, .ref r), (1, .ref q1), (2, .ref q35)]) F dX3_copy_52 (by decide) rfl ?_
      refine g_goto (tgt := 20) F dX3_copy_54 (by decide) ?_
      refine g_lv (lv' := [(0, .ref r), (1, .ref q1), (2, .ref q35)]) [2, 3, 4] rfl ?_
      refine g_room (b' := (1 * (12 - (k + 1)) + 0)) (bs' := (15 * (12 - (k + 1)) + 0)) (by omega) (by omega) ?_
      exact g_eql (lv' := [(0, .ref r), (1, .ref q1), (2, .ref q35)]) (by rfl) (ih hlt h_75 (nI k) d84 m85 x81 f82 f83 (lsO.c l86 lsP_c))
  refine g_lv (lv' := [(0, .ref r), (1, .ref q1), (2, .ref q35)]) [2, 1, 0] rfl ?_
  exact lp 0 (Nat.zero_le _) h_29 (-1) (gAd K 203) 0 x41 f43 f44 (f45)
