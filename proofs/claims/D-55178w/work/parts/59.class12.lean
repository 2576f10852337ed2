/-! ===== The theatre: firsts (written by tools/class12.py) ===== -/
set_option maxHeartbeats 4000000 in
set_option maxRecDepth 100000 in
theorem ct_X15_first_B {K : gK} {N : Nat → Prop} {h : AH} {A : Nat → Nat → Nat} {o : Nat → Nat} {f : Nat → Int32} {nb nc nh nq : Nat} (hT : th K N h A o f nb nc nh nq) {W : List Nat} {N2 : Nat → Prop} {q0 w a0 ld : Nat} {lmd : Int32} (hq : h q0 = some (.inr (15, [.ref (A 4 w)]))) (hw : w < nc) (hW : ∀ i, i < W.length → W.getD i 0 < nb) (hLL : lsO K N2 h a0 ld W.length (fun i => A 3 (W.getD i 0)) lmd) : gCt K yX15_first w_X15_first 5 107 1 4 h [.ref a0, .ref q0] (pO (fun v h9 => v = some (va_rf ((qBl f nc w W W.length).map (A 3))) ∧ gE h h9)) := by
  refine g_meth pf_X15_first (nle rfl) (fun p e s m args below meth c F hnm htb => ?_)
  have F : gFix K p s m args meth c cX15_first 5 RX15 (some (.object "java/lang/Object")) := F
  refine g_eql (lv' := [(0, .ref a0), (1, .ref q0)]) rfl ?_
  have hTt := hT
  obtain ⟨⟨hT0, hTN⟩, hRw, ⟨MD, hLs⟩, ⟨dz, hZ0, hZN, hZo, hZd⟩, ⟨hB, hBN⟩, ⟨hCu, hCN⟩, ⟨hHa, hHN⟩, hQu, hDj, hSg⟩ := hTt
  have hR0 : h (A 0 0) = some (.inr (3, [.ref (A 1 0), .int 8])) := hRw 0 (by decide)
  have hR1 : h (A 0 1) = some (.inr (3, [.ref (A 1 1), .int 12])) := hRw 1 (by decide)
  have hR2 : h (A 0 2) = some (.inr (3, [.ref (A 1 2), .int 6])) := hRw 2 (by decide)
  have hR3 : h (A 0 3) = some (.inr (3, [.ref (A 1 3), .int 12])) := hRw 3 (by decide)
  have hL0 : lsO K N h (A 1 0) (A 2 0) nb (A 3) (MD 0) := hLs 0 (by decide)
  have hL1 : lsO K N h (A 1 1) (A 2 1) nc (A 4) (MD 1) := hLs 1 (by decide)
  have hL2 : lsO K N h (A 1 2) (A 2 2) nh (A 5) (MD 2) := hLs 2 (by decide)
  have hL3 : lsO K N h (A 1 3) (A 2 3) nq (fun i => A 6 (o i)) (MD 3) := hLs 3 (by decide)
  have nb15 : nb ≤ 15 := hL0.2.2.1
  have nc15 : nc ≤ 15 := hL1.2.2.1
  have nh15 : nh ≤ 15 := hL2.2.2.1
  have nq15 : nq ≤ 15 := hL3.2.2.1
  refine g_null F dX15_first_0 ?_
  refine g_astore_nN (lv' := [(2, .null), (0, .ref a0), (1, .ref q0)]) F dX15_first_1 rfl (by decide) rfl ?_
  refine g_aload_n F dX15_first_2 1 rfl rfl ?_
  refine g_callF (x := ⟨"java/lang/Iterable", "iterator", "()Ljava/util/Iterator;"⟩) (b := 0) (bs := 0) F dX15_first_3 mi_J2_iterator rfl q1058 16 rfl q343 q1098 gc_J2 (hLL).1 (ct_J2_iterator (hLL).1) rfl rfl (nle rfl) (nle rfl) (nle rfl) (g_pO (fun v1 h_2 p3 => ?_)) g_pOX
  obtain ⟨q8, rfl, hn_e9, ho_e9, e9⟩ := p3
  have w10 := gE.no gE.rf hn_e9
  have d11 := gnew hn_e9 (hL0).1
  have d12 := gnew hn_e9 (hL1).1
  have d13 := gnew hn_e9 (hL2).1
  have d14 := gnew hn_e9 (hL3).1
  have d15 := gnew hn_e9 (hLL).1
  have x16 := gE.new1 gE.rf e9 hn_e9
  have f17 := gu_a e9
  refine g_eqs (st' := [.ref q8]) rfl ?_
  refine g_astore_n (lv' := [(3, .ref q8), (2, .null), (0, .ref a0), (1, .ref q0)]) F dX15_first_8 rfl (by decide) rfl ?_
  have lp9 : ∀ k, k ≤ W.length → ∀ (h9 : AH) (lr : Int32), (gE h h9) → (h9 q8 = some (.inr (8, [.int (nI k), .int lr, .int lmd, .ref a0]))) → G K p e s m args below meth c (gRm 5 107 1 4) 5 (pO (fun v h9 => v = some (va_rf ((qBl f nc w W W.length).map (A 3))) ∧ gE h h9)) h9 0 0 9 [(0, .ref a0), (1, .ref q0), (2, va_rf ((qBl f nc w W k).map (A 3))), (3, .ref q8)] [] := by
    refine gloop W.length (fun k hk ih => ?_)
    intro h9 lr hE9 hs9
    refine g_aload_n F dX15_first_9 3 rfl rfl ?_
    refine g_callF (x := ⟨"java/util/Iterator", "hasNext", "()Z"⟩) F dX15_first_10 mi_J8_hasNext rfl q1102 2 rfl q385 q383 gc_J8 hs9 (ct_J8_hasNext hs9 (lsO.up hE9 hLL).1 (by have := (lsO.up hE9 hLL).2.2.1; omega) (by have := (lsO.up hE9 hLL).2.2.1; omega)) rfl rfl (nle rfl) (nle rfl) (nle rfl) (g_pur ?_) g_purX
    refine g_if_eq (tgt := 52) F dX15_first_15 (by decide) (fun c25 => ?_) (fun c25 => ?_)
    · have hkn : W.length = k := by have : k = W.length := (by simpa using c25); exact this.symm
      subst hkn
      rcases hv : qBl f nc w W W.length with _ | b9
      · refine g_eql (lv' := [(0, .ref a0), (1, .ref q0), (2, .null), (3, .ref q8)]) (by first | rfl | (simp [hv, va_rf])) ?_
        refine g_aload_nN F dX15_first_52 2 rfl rfl ?_
        exact g_aret F dX15_first_53 (Or.inl ⟨_, rfl⟩) (Or.inl rfl) (⟨_, rfl, rfl, hE9⟩)
      · refine g_eql (lv' := [(0, .ref a0), (1, .ref q0), (2, .ref (A 3 b9)), (3, .ref q8)]) (by first | rfl | (simp [hv, va_rf])) ?_
        refine g_aload_n F dX15_first_52 2 rfl rfl ?_
        exact g_aret F dX15_first_53 (Or.inl ⟨_, rfl⟩) (Or.inr ⟨_, rfl⟩) (⟨_, rfl, rfl, hE9⟩)
    · have hlt : k < W.length := by have : k ≠ W.length := fun z => c25 (by simp [z]); omega
      refine g_aload_n F dX15_first_18 3 rfl rfl ?_
      refine g_callF (x := ⟨"java/util/Iterator", "next", "()Ljava/lang/Object;"⟩) F dX15_first_19 mi_J8_next rfl q1104 5 rfl q499 q497 gc_J8 hs9 (ct_J8_nextL (lsO.up hE9 hLL) hs9 ho_e9 hlt) rfl rfl (nle rfl) (nle rfl) (nle rfl) (g_pur ?_) g_purX
      refine g_gen (fun h_33 e34 => ?_)
      have x35 := gE.wr1 hE9 e34 w10
      have f36 := gu_a e34
      have b37 : h (A 3 (W.getD k 0)) = some (.inr (9, [.int (nI ((W.getD k 0))), .int (f (11 + 4 * (W.getD k 0))), .int (mLoad f nc (nI (W.getD k 0))), .int (mCnt f nc (nI (W.getD k 0))), .int (f (12 + 4 * (W.getD k 0))), .int (f (13 + 4 * (W.getD k 0))), .int (f (14 + 4 * (W.getD k 0)))])) := hB _ (hW k hlt)
      refine g_astore (lv' := [(4, .ref (A 3 (W.getD k 0))), (0, .ref a0), (1, .ref q0), (2, va_rf ((qBl f nc w W k).map (A 3))), (3, .ref q8)]) F dX15_first_24 (by decide) rfl ?_
      rcases hv : qBl f nc w W k with _ | b9
      · refine g_eql (lv' := [(4, .ref (A 3 (W.getD k 0))), (0, .ref a0), (1, .ref q0), (2, .null), (3, .ref q8)]) (by first | rfl | (simp [hv, va_rf])) ?_
        refine g_aload_nN F dX15_first_26 3 rfl rfl ?_
        refine g_ifnullN (tgt := 42) F dX15_first_27 (by decide) ?_
        refine g_aload F dX15_first_42 0 rfl ?_
        refine g_goto (tgt := 48) F dX15_first_44 (by decide) ?_
        refine g_astore_n (lv' := [(2, .ref (A 3 (W.getD k 0))), (4, .ref (A 3 (W.getD k 0))), (0, .ref a0), (1, .ref q0), (3, .ref q8)]) F dX15_first_48 rfl (by decide) rfl ?_
        refine g_goto (tgt := 9) F dX15_first_49 (by decide) ?_
        refine g_lv (lv' := [(0, .ref a0), (1, .ref q0), (2, .ref (A 3 (W.getD k 0))), (3, .ref q8)]) [2, 3, 0, 4] rfl ?_
        exact g_eql (lv' := [(0, .ref a0), (1, .ref q0), (2, va_rf ((qBl f nc w W (k + 1)).map (A 3))), (3, .ref q8)]) (by first | (rw [qBl_0 hv]; rfl) | (rw [qBl_1 hv d1]; rfl) | (rw [qBl_2 hv d1]; rfl)) (ih hlt h_33 (nI k) x35 f36)
      · refine g_eql (lv' := [(4, .ref (A 3 (W.getD k 0))), (0, .ref a0), (1, .ref q0), (2, .ref (A 3 b9)), (3, .ref q8)]) (by first | rfl | (simp [hv, va_rf])) ?_
        have hb9 : b9 < nb := by obtain ⟨z, hz, e⟩ := qBl_lt hv; rw [e]; exact hW z (by omega)
        have b38 : h (A 3 b9) = some (.inr (9, [.int (nI b9), .int (f (11 + 4 * b9)), .int (mLoad f nc (nI b9)), .int (mCnt f nc (nI b9)), .int (f (12 + 4 * b9)), .int (f (13 + 4 * b9)), .int (f (14 + 4 * b9))])) := hB _ hb9
        refine g_aload_n F dX15_first_26 3 rfl rfl ?_
        refine g_ifnull F dX15_first_27 ?_
        refine g_aload_n F dX15_first_30 2 rfl rfl ?_
        refine g_aload F dX15_first_31 0 rfl ?_
        refine g_aload_n F dX15_first_33 3 rfl rfl ?_
        refine g_callF (x := ⟨"CurtainRiggers$Order", "isAhead", "(Ljava/lang/Object;Ljava/lang/Object;)Z"⟩) F dX15_first_34 mi_X16_isAhead rfl q1106 17 rfl q1112 q1110 gc_X16 (x35 _ _ hq) (ct_X16_isAhead (th.up x35 hT) (x35 _ _ hq) hw (hW k hlt) hb9) rfl rfl (nle rfl) (nle rfl) (nle rfl) (g_pur ?_) g_purX
        refine g_if_eq (tgt := 47) F dX15_first_39 (by decide) (fun c46 => ?_) (fun c46 => ?_)
        · have d1 : ¬ qBt f nc w (W.getD k 0) b9 = true := fun z => by rw [if_pos z] at c46; exact absurd c46 (by decide)
          refine g_aload_n F dX15_first_47 3 rfl rfl ?_
          refine g_astore_n (lv' := [(2, .ref (A 3 b9)), (4, .ref (A 3 (W.getD k 0))), (0, .ref a0), (1, .ref q0), (3, .ref q8)]) F dX15_first_48 rfl (by decide) rfl ?_
          refine g_goto (tgt := 9) F dX15_first_49 (by decide) ?_
          refine g_lv (lv' := [(0, .ref a0), (1, .ref q0), (2, .ref (A 3 b9)), (3, .ref q8)]) [2, 3, 0, 4] rfl ?_
          exact g_eql (lv' := [(0, .ref a0), (1, .ref q0), (2, va_rf ((qBl f nc w W (k + 1)).map (A 3))), (3, .ref q8)]) (by first | (rw [qBl_0 hv]; rfl) | (rw [qBl_1 hv d1]; rfl) | (rw [qBl_2 hv d1]; rfl)) (ih hlt h_33 (nI k) x35 f36)
        · have d1 : qBt f nc w (W.getD k 0) b9 = true := Classical.byContradiction (fun z => c46 (by rw [if_neg z]))
          refine g_aload F dX15_first_42 0 rfl ?_
          refine g_goto (tgt := 48) F dX15_first_44 (by decide) ?_
          refine g_astore_n (lv' := [(2, .ref (A 3 (W.getD k 0))), (4, .ref (A 3 (W.getD k 0))), (0, .ref a0), (1, .ref q0), (3, .ref q8)]) F dX15_first_48 rfl (by decide) rfl ?_
          refine g_goto (tgt := 9) F dX15_first_49 (by decide) ?_
          refine g_lv (lv' := [(0, .ref a0), (1, .ref q0), (2, .ref (A 3 (W.getD k 0))), (3, .ref q8)]) [2, 3, 0, 4] rfl ?_
          exact g_eql (lv' := [(0, .ref a0), (1, .ref q0), (2, va_rf ((qBl f nc w W (k + 1)).map (A 3))), (3, .ref q8)]) (by first | (rw [qBl_0 hv]; rfl) | (rw [qBl_1 hv d1]; rfl) | (rw [qBl_2 hv d1]; rfl)) (ih hlt h_33 (nI k) x35 f36)
  refine g_lv (lv' := [(0, .ref a0), (1, .ref q0), (2, .null), (3, .ref q8)]) [2, 3, 1, 0] rfl ?_
  exact lp9 0 (Nat.zero_le _) h_2 (-1) x16 f17
