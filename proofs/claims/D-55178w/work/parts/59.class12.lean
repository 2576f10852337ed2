/-! ===== The theatre: firsts (written by tools/class12.py) ===== -/
set_option maxHeartbeats 4000000 in
set_option maxRecDepth 100000 in
theorem ct_X15_first_B {K : gK} {N : Nat → Prop} {h : AH} {A : Nat → Nat → Nat} {o : Nat → Nat} {f : Nat → Int32} {nb nc nh nq : Nat} (hT : th K N h A o f nb nc nh nq) {W : List Nat} {N2 : Nat → Prop} {q0 w a0 ld : Nat} {lmd : Int32} (hq : h q0 = some (.inr (15, [.ref (A 4 w)]))) (hw : w < nc) (hW : ∀ i, i < W.length → W.getD i 0 < nb) (hLL : lsO K N2 h a0 ld W.length (fun i => A 3 (W.getD i 0)) lmd) : gCt K yX15_first w_X15_first 5 107 1 4 h [.ref a0, .ref q0] (pO (fun v h9 => v = some (va_rf ((qBl f nc w W W.length).map (A 3))) ∧ gE h h9)) := by
  refine g_meth pf_X15_first (nle rfl) (fun p e s m args below meth c F hnm htb => ?_)
  have F : gFix K p s m args meth c cX15_first 5 RX15 (some (.object "java/lang/Object")) := F
  refine g_eql (lv' := [(0, .ref a0), (1, .ref q0)]) rfl ?_
  have hTt := hT
  obtain ⟨⟨hT0, hTN⟩, hRw, ⟨MD, hLs⟩, ⟨dz, hZ0, hZN, hZo, hZd⟩, ⟨hB, hBN⟩, ⟨hCu, hCN⟩, ⟨hHa, hHN⟩, hQu, hDj, hSg⟩ := hTt
  have hR0 : h (A 0 0) = some (.inr (3, [.ref (A 1 0), .int 8])) := hRw 0 (by decide)
  have hR1 : h (A 0 1) = some (.inr (3, [.ref (A 1 1), .int 12])) := hRw 1 (by decide)
  have hR2 : h (A 0 2) = some (.inr (3, [.ref (A 1 2), .int 6])) := hRw 2 (by decide)
  have hR3 : h (A 0 3) = some (.inr (3, [.ref (A 1 3), .int 12])) := hRw 3 (by decide)
  have hL0 : lsO K N h (A 1 0) (A 2 0) nb (A 3) (MD 0) := hLs 0 (by decide)
  have hL1 : lsO K N h (A 1 1) (A 2 1) nc (A 4) (MD 1) := hLs 1 (by decide)
  have hL2 : lsO K N h (A 1 2) (A 2 2) nh (A 5) (MD 2) := hLs 2 (by decide)
  have hL3 : lsO K N h (A 1 3) (A 2 3) nq (fun i => A 6 (o i)) (MD 3) := hLs 3 (by decide)
  have nb15 : nb ≤ 15 := hL0.2.2.1
  have nc15 : nc ≤ 15 := hL1.2.2.1
  have nh15 : nh ≤ 15 := hL2.2.2.1
  have nq15 : nq ≤ 15 := hL3.2.2.1
  refine g_null F dX15_first_0 ?_
  refine g_astore_nN (lv' := [(2, .null), (0, .ref a0), (1, .ref q0)]) F dX15_first_1 rfl (by decide) rfl ?_
  refine g_aload_n F dX15_first_2 1 rfl rfl ?_
  refine g_callF (x := ⟨"java/lang/Iterable", "iterator", "()Ljava/util/Iterator;"⟩) (b := 0) (bs := 0) F dX15_first_3 mi_J2_iterator rfl q1058 16 rfl q343 q1098 gc_J2 (hLL).1 (ct_J2_iterator (hLL).1) rfl rfl (nle rfl) (nle rfl) (nle rfl) (g_pO (fun v1 h_2 p3 => ?_)) g_pOX
  obtain ⟨q8, rfl, hn_e9, ho_e9, e9⟩ := p3
  have w10 := gE.no gE.rf hn_e9
  have d11 := gnew hn_e9 (hL0).1
  have d12 := gnew hn_e9 (hL1).1
  have d13 := gnew hn_e9 (hL2).1
  have d14 := gnew hn_e9 (hL3).1
  have d15 := gnew hn_e9 (hLL).1
  have x16 := gE.new1 gE.rf e9 hn_e9
  have f17 := gu_a e9
  refine g_eqs (st' := [.ref q8]) rfl ?_
  refine g_astore_n (lv' := [(3, .ref q8), (2, .null), (0, .ref a0), (1, .ref q0)]) F dX15_first_8 rfl (by decide) rfl ?_
  have lp9 : ∀ k, k ≤ W.length → ∀ (h9 : AH) (lr : Int32), (gE h h9) → (h9 q8 = some (.inr (8, [.int (nI k), .int lr, .int lmd, .ref a0]))) → G K p e s m args below meth c (gRm 5 107 1 4) 5 (pO (fun v h9 => v = some (va_rf ((qBl f nc w W W.length).map (A 3))) ∧ gE h h9)) h9 (0) (0) 9 [(0, .ref a0), (1, .ref q0), (2, va_rf ((qBl f nc w W k).map (A 3))), (3, .ref q8)] [] := by
    refine gloop W.length (fun k hk ih => ?_)
    intro h9 lr hE9 hs9
    refine g_aload_n F dX15_first_9 3 rfl rfl ?_
    refine g_callF (x := ⟨"java/util/Iterator", "hasNext", "()Z"⟩) F dX15_first_10 mi_J8_hasNext rfl q1102 2 rfl q385 q383 gc_J8 hs9 (ct_J8_hasNext hs9 (lsO.up hE9 hLL).1 (by have := (lsO.up hE9 hLL).2.2.1; omega) (by have := (lsO.up hE9 hLL).2.2.1; omega)) rfl rfl (nle rfl) (nle rfl) (nle rfl) (g_pur ?_) g_purX
    refine g_if_eq (tgt := 52) F dX15_first_15 (by decide) (fun c25 => ?_) (fun c25 => ?_)
    · have hkn : W.length = k := by have : k = W.length := (by simpa using c25); exact this.symm
      subst hkn
      rcases hv : qBl f nc w W W.length with _ | b9
      · refine g_eql (lv' := [(0, .ref a0), (1, .ref q0), (2, .null), (3, .ref q8)]) (by first | rfl | (simp [hv, va_rf])) ?_
        refine g_aload_nN F dX15_first_52 2 rfl rfl ?_
        exact g_aret F dX15_first_53 (Or.inl ⟨_, rfl⟩) (Or.inl rfl) (⟨_, rfl, rfl, hE9⟩)
      · refine g_eql (lv' := [(0, .ref a0), (1, .ref q0), (2, .ref (A 3 b9)), (3, .ref q8)]) (by first | rfl | (simp [hv, va_rf])) ?_
        refine g_aload_n F dX15_first_52 2 rfl rfl ?_
        exact g_aret F dX15_first_53 (Or.inl ⟨_, rfl⟩) (Or.inr ⟨_, rfl⟩) (⟨_, rfl, rfl, hE9⟩)
    · have hlt : k < W.length := by have : k ≠ W.length := fun z => c25 (by simp [z]); omega
      refine g_aload_n F dX15_first_18 3 rfl rfl ?_
      refine g_callF (x := ⟨"java/util/Iterator", "next", "()Ljava/lang/Object;"⟩) F dX15_first_19 mi_J8_next rfl q1104 5 rfl q499 q497 gc_J8 hs9 (ct_J8_nextL (lsO.up hE9 hLL) hs9 ho_e9 hlt) rfl rfl (nle rfl) (nle rfl) (nle rfl) (g_pur ?_) g_purX
      refine g_gen (fun h_33 e34 => ?_)
      have x35 := gE.wr1 hE9 e34 w10
      have f36 := gu_a e34
      have b37 : h (A 3 (W.getD k 0)) = some (.inr (9, [.int (nI ((W.getD k 0))), .int (f (11 + 4 * (W.getD k 0))), .int (mLoad f nc (nI (W.getD k 0))), .int (mCnt f nc (nI (W.getD k 0))), .int (f (12 + 4 * (W.getD k 0))), .int (f (13 + 4 * (W.getD k 0))), .int (f (14 + 4 * (W.getD k 0)))])) := hB _ (hW k hlt)
      refine g_astore (lv' := [(4, .ref (A 3 (W.getD k 0))), (0, .ref a0), (1, .ref q0), (2, va_rf ((qBl f nc w W k).map (A 3))), (3, .ref q8)]) F dX15_first_24 (by decide) rfl ?_
      rcases hv : qBl f nc w W k with _ | b9
      · refine g_eql (lv' := [(4, .ref (A 3 (W.getD k 0))), (0, .ref a0), (1, .ref q0), (2, .null), (3, .ref q8)]) (by first | rfl | (simp [hv, va_rf])) ?_
        refine g_aload_nN F dX15_first_26 3 rfl rfl ?_
        refine g_ifnullN (tgt := 42) F dX15_first_27 (by decide) ?_
        refine g_aload F dX15_first_42 0 rfl ?_
        refine g_goto (tgt := 48) F dX15_first_44 (by decide) ?_
        refine g_astore_n (lv' := [(2, .ref (A 3 (W.getD k 0))), (4, .ref (A 3 (W.getD k 0))), (0, .ref a0), (1, .ref q0), (3, .ref q8)]) F dX15_first_48 rfl (by decide) rfl ?_
        refine g_goto (tgt := 9) F dX15_first_49 (by decide) ?_
        refine g_lv (lv' := [(0, .ref a0), (1, .ref q0), (2, .ref (A 3 (W.getD k 0))), (3, .ref q8)]) [2, 3, 0, 4] rfl ?_
        exact g_eql (lv' := [(0, .ref a0), (1, .ref q0), (2, va_rf ((qBl f nc w W (k + 1)).map (A 3))), (3, .ref q8)]) (by first | (rw [qBl_0 hv]; rfl) | (rw [qBl_1 hv d1]; rfl) | (rw [qBl_2 hv d1]; rfl)) (ih hlt h_33 (nI k) x35 f36)
      · refine g_eql (lv' := [(4, .ref (A 3 (W.getD k 0))), (0, .ref a0), (1, .ref q0), (2, .ref (A 3 b9)), (3, .ref q8)]) (by first | rfl | (simp [hv, va_rf])) ?_
        have hb9 : b9 < nb := by obtain ⟨z, hz, e⟩ := qBl_lt hv; rw [e]; exact hW z (by omega)
        have b38 : h (A 3 b9) = some (.inr (9, [.int (nI b9), .int (f (11 + 4 * b9)), .int (mLoad f nc (nI b9)), .int (mCnt f nc (nI b9)), .int (f (12 + 4 * b9)), .int (f (13 + 4 * b9)), .int (f (14 + 4 * b9))])) := hB _ hb9
        refine g_aload_n F dX15_first_26 3 rfl rfl ?_
        refine g_ifnull F dX15_first_27 ?_
        refine g_aload_n F dX15_first_30 2 rfl rfl ?_
        refine g_aload F dX15_first_31 0 rfl ?_
        refine g_aload_n F dX15_first_33 3 rfl rfl ?_
        refine g_callF (x := ⟨"CurtainRiggers$Order", "isAhead", "(Ljava/lang/Object;Ljava/lang/Object;)Z"⟩) F dX15_first_34 mi_X16_isAhead rfl q1106 17 rfl q1112 q1110 gc_X16 (x35 _ _ hq) (ct_X16_isAhead (th.up x35 hT) (x35 _ _ hq) hw (hW k hlt) hb9) rfl rfl (nle rfl) (nle rfl) (nle rfl) (g_pur ?_) g_purX
        refine g_if_eq (tgt := 47) F dX15_first_39 (by decide) (fun c46 => ?_) (fun c46 => ?_)
        · have d1 : ¬ qBt f nc w (W.getD k 0) b9 = true := fun z => by rw [if_pos z] at c46; exact absurd c46 (by decide)
          refine g_aload_n F dX15_first_47 3 rfl rfl ?_
          refine g_astore_n (lv' := [(2, .ref (A 3 b9)), (4, .ref (A 3 (W.getD k 0))), (0, .ref a0), (1, .ref q0), (3, .ref q8)]) F dX15_first_48 rfl (by decide) rfl ?_
          refine g_goto (tgt := 9) F dX15_first_49 (by decide) ?_
          refine g_lv (lv' := [(0, .ref a0), (1, .ref q0), (2, .ref (A 3 b9)), (3, .ref q8)]) [2, 3, 0, 4] rfl ?_
          exact g_eql (lv' := [(0, .ref a0), (1, .ref q0), (2, va_rf ((qBl f nc w W (k + 1)).map (A 3))), (3, .ref q8)]) (by first | (rw [qBl_0 hv]; rfl) | (rw [qBl_1 hv d1]; rfl) | (rw [qBl_2 hv d1]; rfl)) (ih hlt h_33 (nI k) x35 f36)
        · have d1 : qBt f nc w (W.getD k 0) b9 = true := Classical.byContradiction (fun z => c46 (by rw [if_neg z]))
          refine g_aload F dX15_first_42 0 rfl ?_
          refine g_goto (tgt := 48) F dX15_first_44 (by decide) ?_
          refine g_astore_n (lv' := [(2, .ref (A 3 (W.getD k 0))), (4, .ref (A 3 (W.getD k 0))), (0, .ref a0), (1, .ref q0), (3, .ref q8)]) F dX15_first_48 rfl (by decide) rfl ?_
          refine g_goto (tgt := 9) F dX15_first_49 (by decide) ?_
          refine g_lv (lv' := [(0, .ref a0), (1, .ref q0), (2, .ref (A 3 (W.getD k 0))), (3, .ref q8)]) [2, 3, 0, 4] rfl ?_
          exact g_eql (lv' := [(0, .ref a0), (1, .ref q0), (2, va_rf ((qBl f nc w W (k + 1)).map (A 3))), (3, .ref q8)]) (by first | (rw [qBl_0 hv]; rfl) | (rw [qBl_1 hv d1]; rfl) | (rw [qBl_2 hv d1]; rfl)) (ih hlt h_33 (nI k) x35 f36)
  refine g_lv (lv' := [(0, .ref a0), (1, .ref q0), (2, .null), (3, .ref q8)]) [2, 3, 1, 0] rfl ?_
  exact lp9 0 (Nat.zero_le _) h_2 (-1) x16 f17
set_option maxHeartbeats 4000000 in
set_option maxRecDepth 100000 in
theorem ct_X15_first_Q {K : gK} {N : Nat → Prop} {h : AH} {A : Nat → Nat → Nat} {o : Nat → Nat} {f : Nat → Int32} {nb nc nh nq : Nat} (hT : th K N h A o f nb nc nh nq) {W : List Nat} {N2 : Nat → Prop} {q0 a0 ld : Nat} {lmd : Int32} (hq : h q0 = some (.inr (14, []))) (hW : ∀ i, i < W.length → W.getD i 0 < nq) (hWp : W.Pairwise (· < ·)) (hQs : mQs f nq) (hLL : lsO K N2 h a0 ld W.length (fun i => A 6 (W.getD i 0)) lmd) : gCt K yX15_first w_X15_first 4 85 1 4 h [.ref a0, .ref q0] (pO (fun v h9 => v = some (va_rf ((qHd W W.length).map (A 6))) ∧ gE h h9)) := by
  refine g_meth pf_X15_first (nle rfl) (fun p e s m args below meth c F hnm htb => ?_)
  have F : gFix K p s m args meth c cX15_first 5 RX15 (some (.object "java/lang/Object")) := F
  refine g_eql (lv' := [(0, .ref a0), (1, .ref q0)]) rfl ?_
  have hTt := hT
  obtain ⟨⟨hT0, hTN⟩, hRw, ⟨MD, hLs⟩, ⟨dz, hZ0, hZN, hZo, hZd⟩, ⟨hB, hBN⟩, ⟨hCu, hCN⟩, ⟨hHa, hHN⟩, hQu, hDj, hSg⟩ := hTt
  have hR0 : h (A 0 0) = some (.inr (3, [.ref (A 1 0), .int 8])) := hRw 0 (by decide)
  have hR1 : h (A 0 1) = some (.inr (3, [.ref (A 1 1), .int 12])) := hRw 1 (by decide)
  have hR2 : h (A 0 2) = some (.inr (3, [.ref (A 1 2), .int 6])) := hRw 2 (by decide)
  have hR3 : h (A 0 3) = some (.inr (3, [.ref (A 1 3), .int 12])) := hRw 3 (by decide)
  have hL0 : lsO K N h (A 1 0) (A 2 0) nb (A 3) (MD 0) := hLs 0 (by decide)
  have hL1 : lsO K N h (A 1 1) (A 2 1) nc (A 4) (MD 1) := hLs 1 (by decide)
  have hL2 : lsO K N h (A 1 2) (A 2 2) nh (A 5) (MD 2) := hLs 2 (by decide)
  have hL3 : lsO K N h (A 1 3) (A 2 3) nq (fun i => A 6 (o i)) (MD 3) := hLs 3 (by decide)
  have nb15 : nb ≤ 15 := hL0.2.2.1
  have nc15 : nc ≤ 15 := hL1.2.2.1
  have nh15 : nh ≤ 15 := hL2.2.2.1
  have nq15 : nq ≤ 15 := hL3.2.2.1
  refine g_null F dX15_first_0 ?_
  refine g_astore_nN (lv' := [(2, .null), (0, .ref a0), (1, .ref q0)]) F dX15_first_1 rfl (by decide) rfl ?_
  refine g_aload_n F dX15_first_2 1 rfl rfl ?_
  refine g_callF (x := ⟨"java/lang/Iterable", "iterator", "()Ljava/util/Iterator;"⟩) (b := 0) (bs := 0) F dX15_first_3 mi_J2_iterator rfl q1058 16 rfl q343 q1098 gc_J2 (hLL).1 (ct_J2_iterator (hLL).1) rfl rfl (nle rfl) (nle rfl) (nle rfl) (g_pO (fun v1 h_2 p3 => ?_)) g_pOX
  obtain ⟨q8, rfl, hn_e9, ho_e9, e9⟩ := p3
  have w10 := gE.no gE.rf hn_e9
  have d11 := gnew hn_e9 (hL0).1
  have d12 := gnew hn_e9 (hL1).1
  have d13 := gnew hn_e9 (hL2).1
  have d14 := gnew hn_e9 (hL3).1
  have d15 := gnew hn_e9 (hLL).1
  have x16 := gE.new1 gE.rf e9 hn_e9
  have f17 := gu_a e9
  refine g_eqs (st' := [.ref q8]) rfl ?_
  refine g_astore_n (lv' := [(3, .ref q8), (2, .null), (0, .ref a0), (1, .ref q0)]) F dX15_first_8 rfl (by decide) rfl ?_
  have lp9 : ∀ k, k ≤ W.length → ∀ (h9 : AH) (lr : Int32), (gE h h9) → (h9 q8 = some (.inr (8, [.int (nI k), .int lr, .int lmd, .ref a0]))) → G K p e s m args below meth c (gRm 4 85 1 4) 5 (pO (fun v h9 => v = some (va_rf ((qHd W W.length).map (A 6))) ∧ gE h h9)) h9 (0) (0) 9 [(0, .ref a0), (1, .ref q0), (2, va_rf ((qHd W k).map (A 6))), (3, .ref q8)] [] := by
    refine gloop W.length (fun k hk ih => ?_)
    intro h9 lr hE9 hs9
    refine g_aload_n F dX15_first_9 3 rfl rfl ?_
    refine g_callF (x := ⟨"java/util/Iterator", "hasNext", "()Z"⟩) F dX15_first_10 mi_J8_hasNext rfl q1102 2 rfl q385 q383 gc_J8 hs9 (ct_J8_hasNext hs9 (lsO.up hE9 hLL).1 (by have := (lsO.up hE9 hLL).2.2.1; omega) (by have := (lsO.up hE9 hLL).2.2.1; omega)) rfl rfl (nle rfl) (nle rfl) (nle rfl) (g_pur ?_) g_purX
    refine g_if_eq (tgt := 52) F dX15_first_15 (by decide) (fun c25 => ?_) (fun c25 => ?_)
    · have hkn : W.length = k := by have : k = W.length := (by simpa using c25); exact this.symm
      subst hkn
      rcases hv : qHd W W.length with _ | b9
      · refine g_eql (lv' := [(0, .ref a0), (1, .ref q0), (2, .null), (3, .ref q8)]) (by first | rfl | (simp [hv, va_rf])) ?_
        refine g_aload_nN F dX15_first_52 2 rfl rfl ?_
        exact g_aret F dX15_first_53 (Or.inl ⟨_, rfl⟩) (Or.inl rfl) (⟨_, rfl, rfl, hE9⟩)
      · refine g_eql (lv' := [(0, .ref a0), (1, .ref q0), (2, .ref (A 6 b9)), (3, .ref q8)]) (by first | rfl | (simp [hv, va_rf])) ?_
        refine g_aload_n F dX15_first_52 2 rfl rfl ?_
        exact g_aret F dX15_first_53 (Or.inl ⟨_, rfl⟩) (Or.inr ⟨_, rfl⟩) (⟨_, rfl, rfl, hE9⟩)
    · have hlt : k < W.length := by have : k ≠ W.length := fun z => c25 (by simp [z]); omega
      refine g_aload_n F dX15_first_18 3 rfl rfl ?_
      refine g_callF (x := ⟨"java/util/Iterator", "next", "()Ljava/lang/Object;"⟩) F dX15_first_19 mi_J8_next rfl q1104 5 rfl q499 q497 gc_J8 hs9 (ct_J8_nextL (lsO.up hE9 hLL) hs9 ho_e9 hlt) rfl rfl (nle rfl) (nle rfl) (nle rfl) (g_pur ?_) g_purX
      refine g_gen (fun h_33 e34 => ?_)
      have x35 := gE.wr1 hE9 e34 w10
      have f36 := gu_a e34
      have b37 : h (A 6 (W.getD k 0)) = some (.inr (12, [.int (f (83 + 4 * (W.getD k 0))), .int (f (84 + 4 * (W.getD k 0))), .int (f (85 + 4 * (W.getD k 0))), .int (f (86 + 4 * (W.getD k 0)))])) := hQu _ (hW k hlt)
      refine g_astore (lv' := [(4, .ref (A 6 (W.getD k 0))), (0, .ref a0), (1, .ref q0), (2, va_rf ((qHd W k).map (A 6))), (3, .ref q8)]) F dX15_first_24 (by decide) rfl ?_
      rcases hv : qHd W k with _ | b9
      · refine g_eql (lv' := [(4, .ref (A 6 (W.getD k 0))), (0, .ref a0), (1, .ref q0), (2, .null), (3, .ref q8)]) (by first | rfl | (simp [hv, va_rf])) ?_
        have hk0 := qHd_0 hv
        refine g_aload_nN F dX15_first_26 3 rfl rfl ?_
        refine g_ifnullN (tgt := 42) F dX15_first_27 (by decide) ?_
        refine g_aload F dX15_first_42 0 rfl ?_
        refine g_goto (tgt := 48) F dX15_first_44 (by decide) ?_
        refine g_astore_n (lv' := [(2, .ref (A 6 (W.getD k 0))), (4, .ref (A 6 (W.getD k 0))), (0, .ref a0), (1, .ref q0), (3, .ref q8)]) F dX15_first_48 rfl (by decide) rfl ?_
        refine g_goto (tgt := 9) F dX15_first_49 (by decide) ?_
        refine g_lv (lv' := [(0, .ref a0), (1, .ref q0), (2, .ref (A 6 (W.getD k 0))), (3, .ref q8)]) [2, 3, 0, 4] rfl ?_
        exact g_eql (lv' := [(0, .ref a0), (1, .ref q0), (2, va_rf ((qHd W (k + 1)).map (A 6))), (3, .ref q8)]) (by first | (rw [hk0]; rfl) | (rw [hb9e]; rfl)) (ih hlt h_33 (nI k) x35 f36)
      · refine g_eql (lv' := [(4, .ref (A 6 (W.getD k 0))), (0, .ref a0), (1, .ref q0), (2, .ref (A 6 b9)), (3, .ref q8)]) (by first | rfl | (simp [hv, va_rf])) ?_
        obtain ⟨hb9e, hkp⟩ := qHd_1 hv
        have hb9 : b9 < nq := by rw [hb9e]; exact hW 0 (by omega)
        have b38 : h (A 6 b9) = some (.inr (12, [.int (f (83 + 4 * b9)), .int (f (84 + 4 * b9)), .int (f (85 + 4 * b9)), .int (f (86 + 4 * b9))])) := hQu _ hb9
        refine g_aload_n F dX15_first_26 3 rfl rfl ?_
        refine g_ifnull F dX15_first_27 ?_
        refine g_aload_n F dX15_first_30 2 rfl rfl ?_
        refine g_aload F dX15_first_31 0 rfl ?_
        refine g_aload_n F dX15_first_33 3 rfl rfl ?_
        refine g_callF (x := ⟨"CurtainRiggers$Order", "isAhead", "(Ljava/lang/Object;Ljava/lang/Object;)Z"⟩) F dX15_first_34 mi_X14_isAhead_2 rfl q1106 18 rfl q1136 q1134 gc_X14 (x35 _ _ hq) (ct_X14_isAhead_2 (x35 _ _ hq) (x35 _ _ b37) (x35 _ _ b38)) rfl rfl (nle rfl) (nle rfl) (nle rfl) (g_pur ?_) g_purX
        refine g_if_eq (tgt := 47) F dX15_first_39 (by decide) (fun c46 => ?_) (fun c46 => absurd (by rw [if_neg (fun z => Int32.lt_asymm z (by rw [hb9e]; exact hQs _ _ (pw_get hWp hkp hlt) (hW k hlt)))]) c46)
        refine g_aload_n F dX15_first_47 3 rfl rfl ?_
        refine g_astore_n (lv' := [(2, .ref (A 6 b9)), (4, .ref (A 6 (W.getD k 0))), (0, .ref a0), (1, .ref q0), (3, .ref q8)]) F dX15_first_48 rfl (by decide) rfl ?_
        refine g_goto (tgt := 9) F dX15_first_49 (by decide) ?_
        refine g_lv (lv' := [(0, .ref a0), (1, .ref q0), (2, .ref (A 6 b9)), (3, .ref q8)]) [2, 3, 0, 4] rfl ?_
        exact g_eql (lv' := [(0, .ref a0), (1, .ref q0), (2, va_rf ((qHd W (k + 1)).map (A 6))), (3, .ref q8)]) (by first | (rw [hk0]; rfl) | (rw [hb9e]; rfl)) (ih hlt h_33 (nI k) x35 f36)
  refine g_lv (lv' := [(0, .ref a0), (1, .ref q0), (2, .null), (3, .ref q8)]) [2, 3, 1, 0] rfl ?_
  exact lp9 0 (Nat.zero_le _) h_2 (-1) x16 f17
set_option maxHeartbeats 4000000 in
set_option maxRecDepth 100000 in
theorem ct_X2_bestBar {K : gK} {N : Nat → Prop} {h : AH} {A : Nat → Nat → Nat} {o : Nat → Nat} {f : Nat → Int32} {nb nc nh nq : Nat} (hT : th K N h A o f nb nc nh nq) {Y : Nat} (hI : xI f nb nc nh nq Y) (hY : Y ≤ 1000000) {w : Nat} (hw : w < nc) (hKA : gKA K) : gCt K yX2_bestBar w_X2_bestBar 8 182 12 130 h [.ref (A 7 1), .ref (A 4 w)] (pO (fun v h9 => v = some (va_rf ((qBB f nc w nb).map (A 3))) ∧ gE h h9)) := by
  refine g_meth pf_X2_bestBar (nle rfl) (fun p e s m args below meth c F hnm htb => ?_)
  have F : gFix K p s m args meth c cX2_bestBar 2 RX2 (some (.object "CurtainRiggers$Bar")) := F
  refine g_eql (lv' := [(0, .ref (A 7 1)), (1, .ref (A 4 w))]) rfl ?_
  have hTt := hT
  obtain ⟨⟨hT0, hTN⟩, hRw, ⟨MD, hLs⟩, ⟨dz, hZ0, hZN, hZo, hZd⟩, ⟨hB, hBN⟩, ⟨hCu, hCN⟩, ⟨hHa, hHN⟩, hQu, hDj, hSg⟩ := hTt
  have hR0 : h (A 0 0) = some (.inr (3, [.ref (A 1 0), .int 8])) := hRw 0 (by decide)
  have hR1 : h (A 0 1) = some (.inr (3, [.ref (A 1 1), .int 12])) := hRw 1 (by decide)
  have hR2 : h (A 0 2) = some (.inr (3, [.ref (A 1 2), .int 6])) := hRw 2 (by decide)
  have hR3 : h (A 0 3) = some (.inr (3, [.ref (A 1 3), .int 12])) := hRw 3 (by decide)
  have hL0 : lsO K N h (A 1 0) (A 2 0) nb (A 3) (MD 0) := hLs 0 (by decide)
  have hL1 : lsO K N h (A 1 1) (A 2 1) nc (A 4) (MD 1) := hLs 1 (by decide)
  have hL2 : lsO K N h (A 1 2) (A 2 2) nh (A 5) (MD 2) := hLs 2 (by decide)
  have hL3 : lsO K N h (A 1 3) (A 2 3) nq (fun i => A 6 (o i)) (MD 3) := hLs 3 (by decide)
  have nb15 : nb ≤ 15 := hL0.2.2.1
  have nc15 : nc ≤ 15 := hL1.2.2.1
  have nh15 : nh ≤ 15 := hL2.2.2.1
  have nq15 : nq ≤ 15 := hL3.2.2.1
  have hI2 := hI
  obtain ⟨iC, iL, iBa, iWe, iDo, iCu, iMe⟩ := hI
  obtain ⟨f1, nb8, f2, nc12, f3, nh6, f4, nq12⟩ := iC
  have hqb : qBl f nc w (qLow f nb) (qLow f nb).length = qBB f nc w nb := (qBB_l nb8 (fun i hi => mWith_b hw nc12 iWe (iBa i hi).2.1) (fun i hi => xN_m (iBa i hi).2.2 hY)).symm
  have b1 : h (A 4 w) = some (.inr (10, [.int (nI w), .int (f (43 + 2 * w)), .int (f (44 + 2 * w))])) := hCu _ hw
  refine g_aload_n F dX2_bestBar_0 0 rfl rfl ?_
  refine g_callV (b := 2) (bs := 5) F dX2_bestBar_1 mi_X2_low q1784 q1786 qs13 gc_X2 hT0 (ct_X2_low hT hI2 hKA) rfl rfl (nle rfl) (nle rfl) (nle rfl) (g_pO (fun v2 h_3 p4 => ?_)) g_pOX
  obtain ⟨a9, d10, m11, rfl, l12, x13⟩ := p4
  have x14 := gE.tr gE.rf x13
  have l15 := lsO.N (N' := fun _ => True) (fun _ _ => trivial) l12
  refine g_eqs (st' := [.ref a9]) rfl ?_
  refine g_new (fs := [.null]) (b := 1) (bs := 4) F in_X16 tyX16 tyX16_ok q1788 q1123 q112 gc_X16 nf_X16 dX2_bestBar_4 (fun q16 h_17 hn_e18 ho_e18 e18 => ?_)
  have w19 := gE.no x14 hn_e18
  have d20 := gnew hn_e18 ((lsO.up x14 hL0)).1
  have d21 := gnew hn_e18 ((lsO.up x14 hL1)).1
  have d22 := gnew hn_e18 ((lsO.up x14 hL2)).1
  have d23 := gnew hn_e18 ((lsO.up x14 hL3)).1
  have d24 := gnew hn_e18 (l15).1
  have x25 := gE.new1 x14 e18 hn_e18
  have t26 := lsO.up (gE.new1 gE.rf e18 hn_e18) l15
  have f27 := gu_a e18
  refine g_dup F dX2_bestBar_7 rfl ?_
  refine g_aload_n F dX2_bestBar_8 1 rfl rfl ?_
  refine g_callI F dX2_bestBar_9 mi_X16_init rfl q1789 q1790 (ct_X16_init f27 ho_e18) rfl rfl (nle rfl) (nle rfl) (nle rfl) (g_purv ?_) g_purvX
  refine g_gen (fun h_35 e36 => ?_)
  have x37 := gE.wr1 x25 e36 w19
  have e38 := (by rw [e36, e18, gu_gu] : h_35 = gu h_3 q16 _)
  have t39 := lsO.up (gE.new1 gE.rf e38 hn_e18) l15
  have f40 := gu_a e36
  refine g_callS (b := 0) (bs := 0) F dX2_bestBar_12 mi_X15_first q1054 q1055 (ct_X15_first_B (W := qLow f nb) (th.up x37 hT) f40 hw (fun i hi => qLow_gt hi) t39) rfl rfl (nle rfl) (nle rfl) (nle rfl) (g_pO (fun v41 h_42 p43 => ?_)) g_pOX
  rw [hqb] at p43
  obtain ⟨rfl, p43⟩ := p43
  have x48 := gE.tr x37 p43
  have f49 := p43 _ _ f40
  have t50 := lsO.up p43 t39
  refine g_eqs (st' := [va_rf ((qBB f nc w nb).map (A 3))]) rfl ?_
  rcases hv : qBB f nc w nb with _ | b9
  · refine g_eqs (st' := [.null]) (by first | rfl | (simp [hv, va_rf])) ?_
    refine g_castN F dX2_bestBar_15 ?_
    exact g_aret F dX2_bestBar_18 (Or.inl ⟨_, rfl⟩) (Or.inl rfl) (⟨_, rfl, rfl, x48⟩)
  · refine g_eqs (st' := [.ref (A 3 b9)]) (by first | rfl | (simp [hv, va_rf])) ?_
    have hb9 : b9 < nb := qBB_lt hv
    have b51 : h (A 3 b9) = some (.inr (9, [.int (nI b9), .int (f (11 + 4 * b9)), .int (mLoad f nc (nI b9)), .int (mCnt f nc (nI b9)), .int (f (12 + 4 * b9)), .int (f (13 + 4 * b9)), .int (f (14 + 4 * b9))])) := hB _ hb9
    refine g_castE F q1179 gc_X5 (x48 _ _ b51) dX2_bestBar_15 ?_
    exact g_aret F dX2_bestBar_18 (Or.inl ⟨_, rfl⟩) (Or.inr ⟨_, rfl⟩) (⟨_, rfl, rfl, x48⟩)
set_option maxHeartbeats 4000000 in
set_option maxRecDepth 100000 in
theorem ct_X2_cueWith {K : gK} {N : Nat → Prop} {h : AH} {A : Nat → Nat → Nat} {o : Nat → Nat} {f : Nat → Int32} {nb nc nh nq : Nat} (hT : th K N h A o f nb nc nh nq) {x : Int32} : gCt K yX2_cueWith w_X2_cueWith 5 104 1 2 h [.ref (A 7 1), .int x] (pO (fun v h9 => v = some (va_rf ((qWi f o x nq).map (A 6))) ∧ gE h h9)) := by
  refine g_meth pf_X2_cueWith (nle rfl) (fun p e s m args below meth c F hnm htb => ?_)
  have F : gFix K p s m args meth c cX2_cueWith 5 RX2 (some (.object "CurtainRiggers$Cue")) := F
  refine g_eql (lv' := [(0, .ref (A 7 1)), (1, .int x)]) rfl ?_
  have hTt := hT
  obtain ⟨⟨hT0, hTN⟩, hRw, ⟨MD, hLs⟩, ⟨dz, hZ0, hZN, hZo, hZd⟩, ⟨hB, hBN⟩, ⟨hCu, hCN⟩, ⟨hHa, hHN⟩, hQu, hDj, hSg⟩ := hTt
  have hR0 : h (A 0 0) = some (.inr (3, [.ref (A 1 0), .int 8])) := hRw 0 (by decide)
  have hR1 : h (A 0 1) = some (.inr (3, [.ref (A 1 1), .int 12])) := hRw 1 (by decide)
  have hR2 : h (A 0 2) = some (.inr (3, [.ref (A 1 2), .int 6])) := hRw 2 (by decide)
  have hR3 : h (A 0 3) = some (.inr (3, [.ref (A 1 3), .int 12])) := hRw 3 (by decide)
  have hL0 : lsO K N h (A 1 0) (A 2 0) nb (A 3) (MD 0) := hLs 0 (by decide)
  have hL1 : lsO K N h (A 1 1) (A 2 1) nc (A 4) (MD 1) := hLs 1 (by decide)
  have hL2 : lsO K N h (A 1 2) (A 2 2) nh (A 5) (MD 2) := hLs 2 (by decide)
  have hL3 : lsO K N h (A 1 3) (A 2 3) nq (fun i => A 6 (o i)) (MD 3) := hLs 3 (by decide)
  have nb15 : nb ≤ 15 := hL0.2.2.1
  have nc15 : nc ≤ 15 := hL1.2.2.1
  have nh15 : nh ≤ 15 := hL2.2.2.1
  have nq15 : nq ≤ 15 := hL3.2.2.1
  refine g_null F dX2_cueWith_0 ?_
  refine g_astore_nN (lv' := [(2, .null), (0, .ref (A 7 1)), (1, .int x)]) F dX2_cueWith_1 rfl (by decide) rfl ?_
  refine g_aload_n F dX2_cueWith_2 1 rfl rfl ?_
  refine gf_X2_26_X2 (v := .ref (A 0 3)) F dX2_cueWith_3 hT0 rfl ?_
  refine g_callV (b := 0) (bs := 0) F dX2_cueWith_6 mi_X3_iterator q743 q744 q745 gc_X3 hR3 ct_X3_iterator rfl rfl (nle rfl) (nle rfl) (nle rfl) (g_pO (fun v1 h_2 p3 => ?_)) g_pOX
  obtain ⟨q8, rfl, hn_e9, ho_e9, e9⟩ := p3
  have w10 := gE.no gE.rf hn_e9
  have d11 := gnew hn_e9 (hL0).1
  have d12 := gnew hn_e9 (hL1).1
  have d13 := gnew hn_e9 (hL2).1
  have d14 := gnew hn_e9 (hL3).1
  have x15 := gE.new1 gE.rf e9 hn_e9
  have f16 := gu_a e9
  refine g_eqs (st' := [.ref q8]) rfl ?_
  refine g_astore_n (lv' := [(3, .ref q8), (2, .null), (0, .ref (A 7 1)), (1, .int x)]) F dX2_cueWith_9 rfl (by decide) rfl ?_
  have lp10 : ∀ k, k ≤ nq → ∀ (h9 : AH), (gE h h9) → (h9 q8 = some (.inr (13, [.int (nI k), .ref (A 0 3)]))) → G K p e s m args below meth c (gRm 5 104 1 2) 5 (pO (fun v h9 => v = some (va_rf ((qWi f o x nq).map (A 6))) ∧ gE h h9)) h9 (0) (0) 10 [(0, .ref (A 7 1)), (1, .int x), (2, va_rf ((qWi f o x k).map (A 6))), (3, .ref q8)] [] := by
    refine gloop nq (fun k hk ih => ?_)
    intro h9 hE9 hs9
    refine g_aload_n F dX2_cueWith_10 3 rfl rfl ?_
    refine g_callF (x := ⟨"java/util/Iterator", "hasNext", "()Z"⟩) F dX2_cueWith_11 mi_X13_hasNext rfl q761 0 rfl q372 q370 gc_X13 hs9 (ct_X13_hasNext (k := k) (hE9 _ _ hR3) (lsO.up hE9 hL3) hs9 (by omega)) rfl rfl (nle rfl) (nle rfl) (nle rfl) (g_pur ?_) g_purX
    refine g_if_eq (tgt := 49) F dX2_cueWith_16 (by decide) (fun c24 => ?_) (fun c24 => ?_)
    · have hkn : nq = k := by have : ¬ k < nq := (fun z => by simp [z] at c24); omega
      subst hkn
      rcases hv : qWi f o x nq with _ | b9
      · refine g_eql (lv' := [(0, .ref (A 7 1)), (1, .int x), (2, .null), (3, .ref q8)]) (by first | rfl | (simp [hv, va_rf])) ?_
        refine g_aload_nN F dX2_cueWith_49 2 rfl rfl ?_
        exact g_aret F dX2_cueWith_50 (Or.inl ⟨_, rfl⟩) (Or.inl rfl) (⟨_, rfl, rfl, hE9⟩)
      · refine g_eql (lv' := [(0, .ref (A 7 1)), (1, .int x), (2, .ref (A 6 b9)), (3, .ref q8)]) (by first | rfl | (simp [hv, va_rf])) ?_
        refine g_aload_n F dX2_cueWith_49 2 rfl rfl ?_
        exact g_aret F dX2_cueWith_50 (Or.inl ⟨_, rfl⟩) (Or.inr ⟨_, rfl⟩) (⟨_, rfl, rfl, hE9⟩)
    · have hlt : k < nq := Classical.byContradiction (fun z => c24 (by simp [z]))
      refine g_aload_n F dX2_cueWith_19 3 rfl rfl ?_
      refine g_callF (x := ⟨"java/util/Iterator", "next", "()Ljava/lang/Object;"⟩) F dX2_cueWith_20 mi_X13_next rfl q763 3 rfl q394 q392 gc_X13 hs9 (ct_X13_next (hE9 _ _ hR3) (lsO.up hE9 hL3) hs9 ho_e9 hlt (fun i hi => gNum_q (hE9 _ _ (hQu _ (hSg.1 i hi))))) rfl rfl (nle rfl) (nle rfl) (nle rfl) (g_pur ?_) g_purX
      refine g_gen (fun h_32 e33 => ?_)
      have x34 := gE.wr1 hE9 e33 w10
      have f35 := gu_a e33
      have b36 : h (A 6 (o k)) = some (.inr (12, [.int (f (83 + 4 * (o k))), .int (f (84 + 4 * (o k))), .int (f (85 + 4 * (o k))), .int (f (86 + 4 * (o k)))])) := hQu _ (hSg.1 k hlt)
      refine g_eqs (st' := [.ref (A 6 (o k))]) rfl ?_
      refine g_castE F q764 gc_X17 (x34 _ _ b36) dX2_cueWith_25 ?_
      refine g_astore (lv' := [(4, .ref (A 6 (o k))), (0, .ref (A 7 1)), (1, .int x), (2, va_rf ((qWi f o x k).map (A 6))), (3, .ref q8)]) F dX2_cueWith_28 (by decide) rfl ?_
      refine g_aload F dX2_cueWith_30 0 rfl ?_
      refine gf_X2_278_X17 (v := .int (f (83 + 4 * (o k)))) F dX2_cueWith_32 (x34 _ _ b36) rfl ?_
      refine g_iload_n F dX2_cueWith_35 2 rfl rfl ?_
      refine g_icmp_ne (tgt := 44) F dX2_cueWith_36 (by decide) (fun c37 => ?_) (fun c37 => ?_)
      · have d1 := c37
        rcases hv : qWi f o x k with _ | b9
        · refine g_eql (lv' := [(4, .ref (A 6 (o k))), (0, .ref (A 7 1)), (1, .int x), (2, .null), (3, .ref q8)]) (by first | rfl | (simp [hv, va_rf])) ?_
          refine g_aload_nN F dX2_cueWith_44 3 rfl rfl ?_
          refine g_astore_nN (lv' := [(2, .null), (4, .ref (A 6 (o k))), (0, .ref (A 7 1)), (1, .int x), (3, .ref q8)]) F dX2_cueWith_45 rfl (by decide) rfl ?_
          refine g_goto (tgt := 10) F dX2_cueWith_46 (by decide) ?_
          refine g_lv (lv' := [(0, .ref (A 7 1)), (1, .int x), (2, .null), (3, .ref q8)]) [2, 3, 0, 4] rfl ?_
          exact g_eql (lv' := [(0, .ref (A 7 1)), (1, .int x), (2, va_rf ((qWi f o x (k + 1)).map (A 6))), (3, .ref q8)]) (by first | (rw [qWi_s, if_pos d1]; rfl) | (rw [qWi_s, if_neg d1, hv]; rfl)) (ih hlt h_32 x34 f35)
        · refine g_eql (lv' := [(4, .ref (A 6 (o k))), (0, .ref (A 7 1)), (1, .int x), (2, .ref (A 6 b9)), (3, .ref q8)]) (by first | rfl | (simp [hv, va_rf])) ?_
          refine g_aload_n F dX2_cueWith_44 3 rfl rfl ?_
          refine g_astore_n (lv' := [(2, .ref (A 6 b9)), (4, .ref (A 6 (o k))), (0, .ref (A 7 1)), (1, .int x), (3, .ref q8)]) F dX2_cueWith_45 rfl (by decide) rfl ?_
          refine g_goto (tgt := 10) F dX2_cueWith_46 (by decide) ?_
          refine g_lv (lv' := [(0, .ref (A 7 1)), (1, .int x), (2, .ref (A 6 b9)), (3, .ref q8)]) [2, 3, 0, 4] rfl ?_
          exact g_eql (lv' := [(0, .ref (A 7 1)), (1, .int x), (2, va_rf ((qWi f o x (k + 1)).map (A 6))), (3, .ref q8)]) (by first | (rw [qWi_s, if_pos d1]; rfl) | (rw [qWi_s, if_neg d1, hv]; rfl)) (ih hlt h_32 x34 f35)
      · have d1 := c37
        refine g_aload F dX2_cueWith_39 0 rfl ?_
        refine g_goto (tgt := 45) F dX2_cueWith_41 (by decide) ?_
        refine g_astore_n (lv' := [(2, .ref (A 6 (o k))), (4, .ref (A 6 (o k))), (0, .ref (A 7 1)), (1, .int x), (3, .ref q8)]) F dX2_cueWith_45 rfl (by decide) rfl ?_
        refine g_goto (tgt := 10) F dX2_cueWith_46 (by decide) ?_
        refine g_lv (lv' := [(0, .ref (A 7 1)), (1, .int x), (2, .ref (A 6 (o k))), (3, .ref q8)]) [2, 3, 0, 4] rfl ?_
        exact g_eql (lv' := [(0, .ref (A 7 1)), (1, .int x), (2, va_rf ((qWi f o x (k + 1)).map (A 6))), (3, .ref q8)]) (by first | (rw [qWi_s, if_pos d1]; rfl) | (rw [qWi_s, if_neg d1, hv]; rfl)) (ih hlt h_32 x34 f35)
  refine g_lv (lv' := [(0, .ref (A 7 1)), (1, .int x), (2, .null), (3, .ref q8)]) [2, 3, 1, 0] rfl ?_
  exact lp10 0 (Nat.zero_le _) h_2 x15 f16
