/-! ===== bestAgain (written by tools/class23.py) ===== -/
set_option maxHeartbeats 4000000 in
set_option maxRecDepth 100000 in
theorem ct_X2_bestAgain {K : gK} {N : Nat → Prop} {h : AH} {A : Nat → Nat → Nat} {o : Nat → Nat} {f : Nat → Int32} {nb nc nh nq : Nat} (hT : th K N h A o f nb nc nh nq) {Y : Nat} (hI : xI f nb nc nh nq Y) (hY : Y ≤ 1000000) {w : Nat} (hw : w < nc) (hKA : gKA K) : gCt K yX2_bestAgain w_X2_bestAgain 8 182 21 253 h [.ref (A 7 1), .ref (A 4 w)] (pO (fun v h9 => v = some (va_rf ((qBB f nc w nb).map (A 3))) ∧ gE h h9)) := by
  refine g_meth pf_X2_bestAgain (nle rfl) (fun p e s m args below meth c F hnm htb => ?_)
  have F : gFix K p s m args meth c cX2_bestAgain 7 RX2 (some (.object "CurtainRiggers$Bar")) := F
  refine g_eql (lv' := [(0, .ref (A 7 1)), (1, .ref (A 4 w))]) rfl ?_
  have hTt := hT
  obtain ⟨⟨hT0, hTN⟩, hRw, ⟨MD, hLs⟩, ⟨dz, hZ0, hZN, hZo, hZd⟩, ⟨hB, hBN⟩, ⟨hCu, hCN⟩, ⟨hHa, hHN⟩, hQu, hDj, hSg⟩ := hTt
  have hR0 : h (A 0 0) = some (.inr (3, [.ref (A 1 0), .int 8])) := hRw 0 (by decide)
  have hR1 : h (A 0 1) = some (.inr (3, [.ref (A 1 1), .int 12])) := hRw 1 (by decide)
  have hR2 : h (A 0 2) = some (.inr (3, [.ref (A 1 2), .int 6])) := hRw 2 (by decide)
  have hR3 : h (A 0 3) = some (.inr (3, [.ref (A 1 3), .int 12])) := hRw 3 (by decide)
  have hL0 : lsO K N h (A 1 0) (A 2 0) nb (A 3) (MD 0) := hLs 0 (by decide)
  have hL1 : lsO K N h (A 1 1) (A 2 1) nc (A 4) (MD 1) := hLs 1 (by decide)
  have hL2 : lsO K N h (A 1 2) (A 2 2) nh (A 5) (MD 2) := hLs 2 (by decide)
  have hL3 : lsO K N h (A 1 3) (A 2 3) nq (fun i => A 6 (o i)) (MD 3) := hLs 3 (by decide)
  have nb15 : nb ≤ 15 := hL0.2.2.1
  have nc15 : nc ≤ 15 := hL1.2.2.1
  have nh15 : nh ≤ 15 := hL2.2.2.1
  have nq15 : nq ≤ 15 := hL3.2.2.1
  have hI2 := hI
  obtain ⟨iC, iL, iBa, iWe, iDo, iCu, iMe⟩ := hI
  obtain ⟨f1, nb8, f2, nc12, f3, nh6, f4, nq12⟩ := iC
  have hql : (qLow f nb).length ≤ nb := qLow_len
  have b1 : h (A 4 w) = some (.inr (10, [.int (nI w), .int (f (43 + 2 * w)), .int (f (44 + 2 * w))])) := hCu _ hw
  refine g_new (fs := [.null]) (b := 20) (bs := 252) F in_X16 tyX16 tyX16_ok q1788 q1123 q112 gc_X16 nf_X16 dX2_bestAgain_0 (fun q2 h_3 hn_e4 ho_e4 e4 => ?_)
  have w5 := gE.no gE.rf hn_e4
  have d6 := gnew hn_e4 (hL0).1
  have d7 := gnew hn_e4 (hL1).1
  have d8 := gnew hn_e4 (hL2).1
  have d9 := gnew hn_e4 (hL3).1
  have x10 := gE.new1 gE.rf e4 hn_e4
  have f11 := gu_a e4
  refine g_dup F dX2_bestAgain_3 rfl ?_
  refine g_aload_n F dX2_bestAgain_4 1 rfl rfl ?_
  refine g_callI F dX2_bestAgain_5 mi_X16_init rfl q1789 q1790 (ct_X16_init f11 ho_e4) rfl rfl (nle rfl) (nle rfl) (nle rfl) (g_purv ?_) g_purvX
  refine g_gen (fun h_19 e20 => ?_)
  have x21 := gE.wr1 x10 e20 w5
  have e22 := (by rw [e20, e4, gu_gu] : h_19 = gu h q2 _)
  have f23 := gu_a e20
  refine g_astore_n (lv' := [(2, .ref q2), (0, .ref (A 7 1)), (1, .ref (A 4 w))]) F dX2_bestAgain_8 rfl (by decide) rfl ?_
  refine g_new (fs := [.int 0, .null, .int 0]) (b := 19) (bs := 249) F in_J2 tyJ2 tyJ2_ok q741 q139 q74 gc_J2 nf_J2 dX2_bestAgain_9 (fun q24 h_25 hn_e26 ho_e26 e26 => ?_)
  have w27 := gE.no x21 hn_e26
  have d28 := gnew hn_e26 ((lsO.up x21 hL0)).1
  have d29 := gnew hn_e26 ((lsO.up x21 hL1)).1
  have d30 := gnew hn_e26 ((lsO.up x21 hL2)).1
  have d31 := gnew hn_e26 ((lsO.up x21 hL3)).1
  have d32 := gnew hn_e26 f23
  have x33 := gE.new1 x21 e26 hn_e26
  have f34 := gu_t e26 f23 d32
  have f35 := gu_a e26
  refine g_dup F dX2_bestAgain_12 rfl ?_
  refine g_callI F dX2_bestAgain_13 mi_J2_init rfl q742 q141 (ct_J2_init f35 ho_e26) rfl rfl (nle rfl) (nle rfl) (nle rfl) (g_purv ?_) g_purvX
  refine g_gen (fun h_43 e44 => ?_)
  have x45 := gE.wr1 x33 e44 w27
  have e46 := (by rw [e44, e26, gu_gu] : h_43 = gu h_19 q24 _)
  have f47 := gu_t e44 f34 d32
  have f48 := gu_a e44
  refine g_astore_n (lv' := [(3, .ref q24), (2, .ref q2), (0, .ref (A 7 1)), (1, .ref (A 4 w))]) F dX2_bestAgain_16 rfl (by decide) rfl ?_
  refine g_aload_n F dX2_bestAgain_17 2 rfl rfl ?_
  refine g_callV (b := 9) (bs := 124) F dX2_bestAgain_18 mi_X2_low q1784 q1786 qs13 gc_X2 (x45 _ _ hT0) (ct_X2_low (th.up x45 hT) hI2 hKA) rfl rfl (nle rfl) (nle rfl) (nle rfl) (g_pO (fun v49 h_50 p51 => ?_)) g_pOX
  obtain ⟨a56, d57, m58, rfl, l59, x60⟩ := p51
  have d61 := gnew l59.2.1.1 f48
  have x62 := gE.tr x45 x60
  have f63 := x60 _ _ f47
  have f64 := x60 _ _ f48
  have l65 := lsO.N (N' := fun _ => True) (fun _ _ => trivial) l59
  refine g_eqs (st' := [.ref a56]) rfl ?_
  refine g_callV (b := 8) (bs := 120) F dX2_bestAgain_21 mi_J2_iterator q1277 q343 q344 gc_J2 (l65).1 (ct_J2_iterator (l65).1) rfl rfl (nle rfl) (nle rfl) (nle rfl) (g_pO (fun v66 h_67 p68 => ?_)) g_pOX
  obtain ⟨q73, rfl, hn_e74, ho_e74, e74⟩ := p68
  have w75 := gE.no x62 hn_e74
  have d76 := gnew hn_e74 ((lsO.up x62 hL0)).1
  have d77 := gnew hn_e74 ((lsO.up x62 hL1)).1
  have d78 := gnew hn_e74 ((lsO.up x62 hL2)).1
  have d79 := gnew hn_e74 ((lsO.up x62 hL3)).1
  have d80 := gnew hn_e74 f63
  have d81 := gnew hn_e74 f64
  have d82 := gnew hn_e74 (l65).1
  have x83 := gE.new1 x62 e74 hn_e74
  have f84 := gu_t e74 f63 d80
  have f85 := gu_t e74 f64 d81
  have t86 := lsO.up (gE.new1 gE.rf e74 hn_e74) l65
  have f87 := gu_a e74
  refine g_eqs (st' := [.ref q73]) rfl ?_
  refine g_astore (lv' := [(4, .ref q73), (3, .ref q24), (2, .ref q2), (0, .ref (A 7 1)), (1, .ref (A 4 w))]) F dX2_bestAgain_24 (by decide) rfl ?_
  have lp26 : ∀ k, k ≤ (qLow f nb).length → ∀ (h9 : AH) (lr : Int32) (d9 : Nat) (md9 : Int32) (l9 : Nat → Nat), (gE h h9) → (h9 q73 = some (.inr (8, [.int (nI k), .int lr, .int m58, .ref a56]))) → (0 < k → d57 ≠ d9) → (lsO K (gNw K h) h9 q24 d9 k l9 md9) → (∀ i, i < k → ∃ j, j < nb ∧ l9 i = A 3 j) → (∀ b, qBl f nc w (qLow f nb) k = some b → l9 0 = A 3 b) → (h9 q2 = some (.inr (15, [.ref (A 4 w)]))) → (lsO K (fun _ => True) h9 a56 d57 (qLow f nb).length (fun i => A 3 ((qLow f nb).getD i 0)) m58) → G K p e s m args below meth c (gRm 8 182 21 253) 7 (pO (fun v h9 => v = some (va_rf ((qBB f nc w nb).map (A 3))) ∧ gE h h9)) h9 (1 * (8 - k) + 0) (15 * (8 - k) + 0) 26 [(0, .ref (A 7 1)), (1, .ref (A 4 w)), (2, .ref q2), (3, .ref q24), (4, .ref q73)] [] := by
    refine gloop ((qLow f nb).length) (fun k hk ih => ?_)
    intro h9 lr d9 md9 l9 hE9 hs9 hd9 hl9 hS9 hZ9 hq9 hlL
    refine g_aload F dX2_bestAgain_26 4 rfl ?_
    refine g_callF (x := ⟨"java/util/Iterator", "hasNext", "()Z"⟩) (b := 1 * (8 - k)) (bs := 15 * (8 - k)) F dX2_bestAgain_28 mi_J8_hasNext rfl q761 2 rfl q385 q383 gc_J8 hs9 (ct_J8_hasNext hs9 hlL.1 (by have := hlL.2.2.1; omega) (by have := hlL.2.2.1; omega)) rfl rfl (nle rfl) (nle rfl) (nle rfl) (g_pur ?_) g_purX
    refine g_if_eq (tgt := 95) F dX2_bestAgain_33 (by decide) (fun c95 => ?_) (fun c95 => ?_)
    · have hkn : (qLow f nb).length = k := by have : k = (qLow f nb).length := (by simpa using c95); exact this.symm
      subst hkn
      refine g_room (b' := 0) (bs' := 0) (by omega) (by omega) ?_
      have hqb : qBl f nc w (qLow f nb) (qLow f nb).length = qBB f nc w nb := (qBB_l nb8 (fun i hi => mWith_b hw nc12 iWe (iBa i hi).2.1) (fun i hi => xN_m (iBa i hi).2.2 hY)).symm
      refine g_aload_n F dX2_bestAgain_95 3 rfl rfl ?_
      refine g_callV F dX2_bestAgain_96 mi_J2_isEmpty q1818 q1819 q1820 gc_J2 (hl9).1 (ct_J2_isEmpty (hl9).1) rfl rfl (nle rfl) (nle rfl) (nle rfl) (g_pur ?_) g_purX
      refine g_if_eq (tgt := 106) F dX2_bestAgain_99 (by decide) (fun c103 => ?_) (fun c103 => ?_)
      · have hn0 : 0 < (qLow f nb).length := by have : ¬ nI (qLow f nb).length = 0 := (fun z => by rw [if_pos z] at c103; exact absurd c103 (by decide)); rcases Nat.eq_zero_or_pos (qLow f nb).length with z | z; (rw [z] at this; exact absurd rfl this); exact z
        obtain ⟨b9, hb9⟩ : ∃ b, qBl f nc w (qLow f nb) (qLow f nb).length = some b := by rcases e : qBl f nc w (qLow f nb) (qLow f nb).length with _ | b; (have := qBl_n e; omega); exact ⟨b, rfl⟩
        have hbn : b9 < nb := by obtain ⟨i, hi, rfl⟩ := qBl_lt hb9; exact qLow_gt hi
        have hbe : qBB f nc w nb = some b9 := hqb.symm.trans hb9
        refine g_aload_n F dX2_bestAgain_106 3 rfl rfl ?_
        refine g_iconst (v := 0) F dX2_bestAgain_107 rfl ?_
        refine g_callV F dX2_bestAgain_108 mi_J2_get q766 q402 q403 gc_J2 (hl9).1 (ct_J2_getL hl9 (rfl : (0 : Int32) = nI 0) hn0) rfl rfl (nle rfl) (nle rfl) (nle rfl) (g_pur ?_) g_purX
        have b111 : h (A 3 b9) = some (.inr (9, [.int (nI b9), .int (f (11 + 4 * b9)), .int (mLoad f nc (nI b9)), .int (mCnt f nc (nI b9)), .int (f (12 + 4 * b9)), .int (f (13 + 4 * b9)), .int (f (14 + 4 * b9))])) := hB _ hbn
        refine g_eqs (st' := [.ref (A 3 b9)]) (by rw [hZ9 b9 hb9]) ?_
        refine g_castE F q1179 gc_X5 (hE9 _ _ b111) dX2_bestAgain_111 ?_
        exact g_aret F dX2_bestAgain_114 (Or.inl ⟨_, rfl⟩) (Or.inr ⟨_, rfl⟩) (⟨_, rfl, by rw [hbe]; rfl, hE9⟩)
      · have hbe : qBB f nc w nb = none := by have hz : nI (qLow f nb).length = 0 := Classical.byContradiction (fun z => c103 (by rw [if_neg z])); have hl0 : (qLow f nb).length = 0 := (nI_eq (b := 0) (by omega) (by decide)).mp hz; rw [← hqb, hl0]; rfl
        refine g_null F dX2_bestAgain_102 ?_
        refine g_goto (tgt := 114) F dX2_bestAgain_103 (by decide) ?_
        exact g_aret F dX2_bestAgain_114 (Or.inl ⟨_, rfl⟩) (Or.inl rfl) (⟨_, rfl, by rw [hbe]; rfl, hE9⟩)
    · have hlt : k < (qLow f nb).length := by have : k ≠ (qLow f nb).length := fun z => c95 (by simp [z]); omega
      refine g_room (b' := (1 * (8 - (k + 1)) + 0) + 1) (bs' := (15 * (8 - (k + 1)) + 0) + 15) (by omega) (by omega) ?_
      refine g_aload F dX2_bestAgain_36 4 rfl ?_
      refine g_callF (x := ⟨"java/util/Iterator", "next", "()Ljava/lang/Object;"⟩) (b := (1 * (8 - (k + 1)) + 0) + 1) (bs := (15 * (8 - (k + 1)) + 0) + 15) F dX2_bestAgain_38 mi_J8_next rfl q763 5 rfl q499 q497 gc_J8 hs9 (ct_J8_nextL hlL hs9 ho_e74 hlt) rfl rfl (nle rfl) (nle rfl) (nle rfl) (g_pur ?_) g_purX
      refine g_gen (fun h_119 e120 => ?_)
      have x121 := gE.wr1 hE9 e120 w75
      have f122 := gu_t e120 hq9 d80
      have t123 := lsO.oth e120 hs9 (by decide) hlL
      have t124 := lsO.oth e120 hs9 (by decide) hl9
      have f125 := gu_a e120
      have b126 : h (A 3 ((qLow f nb).getD k 0)) = some (.inr (9, [.int (nI (((qLow f nb).getD k 0))), .int (f (11 + 4 * ((qLow f nb).getD k 0))), .int (mLoad f nc (nI ((qLow f nb).getD k 0))), .int (mCnt f nc (nI ((qLow f nb).getD k 0))), .int (f (12 + 4 * ((qLow f nb).getD k 0))), .int (f (13 + 4 * ((qLow f nb).getD k 0))), .int (f (14 + 4 * ((qLow f nb).getD k 0)))])) := hB _ (qLow_gt hlt)
      refine g_castE F q1179 gc_X5 (x121 _ _ b126) dX2_bestAgain_43 ?_
      refine g_astore (lv' := [(5, .ref (A 3 ((qLow f nb).getD k 0))), (0, .ref (A 7 1)), (1, .ref (A 4 w)), (2, .ref q2), (3, .ref q24), (4, .ref q73)]) F dX2_bestAgain_46 (by decide) rfl ?_
      refine g_iconst (v := 0) F dX2_bestAgain_48 rfl ?_
      refine g_istore (lv' := [(6, .int 0), (5, .ref (A 3 ((qLow f nb).getD k 0))), (0, .ref (A 7 1)), (1, .ref (A 4 w)), (2, .ref q2), (3, .ref q24), (4, .ref q73)]) F dX2_bestAgain_49 (by decide) rfl ?_
      have lpj : ∀ j, j ≤ k → (0 < j → ∀ b, qBl f nc w (qLow f nb) k = some b → qBt f nc w b ((qLow f nb).getD k 0) = true) → G K p e s m args below meth c (gRm 8 182 21 253) 7 (pO (fun v h9 => v = some (va_rf ((qBB f nc w nb).map (A 3))) ∧ gE h h9)) h_119 ((1 * (8 - (k + 1)) + 0) + 1) ((15 * (8 - (k + 1)) + 0) + 15) 51 [(0, .ref (A 7 1)), (1, .ref (A 4 w)), (2, .ref q2), (3, .ref q24), (4, .ref q73), (5, .ref (A 3 ((qLow f nb).getD k 0))), (6, .int (nI j))] [] := by
        refine gloop k (fun j hj ihj => ?_)
        intro hjp
        refine g_iload F dX2_bestAgain_51 6 rfl ?_
        refine g_aload_n F dX2_bestAgain_53 3 rfl rfl ?_
        refine g_callV (b := (1 * (8 - (k + 1)) + 0) + 1) (bs := (15 * (8 - (k + 1)) + 0) + 15) F dX2_bestAgain_54 mi_J2_size q765 q311 q312 gc_J2 (t124).1 (ct_J2_size (t124).1) rfl rfl (nle rfl) (nle rfl) (nle rfl) (g_pur ?_) g_purX
        refine g_icmp_ge (tgt := 84) F dX2_bestAgain_57 (by decide) (fun c134 => ?_) (fun c134 => ?_)
        · have hkb : k < 15 := (by have := qLow_len (f := f) (n := nb); omega)
          have hjs : k ≤ j := (nI_leI (by omega) (by omega)).mp c134
          have hx0 : j = 0 → ∀ b, qBl f nc w (qLow f nb) k = some b → ¬ qBt f nc w b ((qLow f nb).getD k 0) = true := fun z b hb => by have hk0 : k = 0 := (by omega); subst hk0; cases hb
          refine g_aload_n F dX2_bestAgain_84 3 rfl rfl ?_
          refine g_iload F dX2_bestAgain_85 6 rfl ?_
          refine g_aload F dX2_bestAgain_87 5 rfl ?_
          refine g_callV (b := (1 * (8 - (k + 1)) + 0)) (bs := (15 * (8 - (k + 1)) + 0)) F dX2_bestAgain_89 mi_J2_add_3 q801 q802 q803 gc_J2 (t124).1 (ct_J2_add_3L (h0 := h) t124 x121 hkb (fun i hi => by obtain ⟨q, hq9, e9⟩ := hS9 i hi; rw [e9]; exact gOb_b (x121 _ _ (hB q hq9))) (gOb_b (x121 _ _ b126)) hKA hj) rfl rfl (nle rfl) (nle rfl) (nle rfl) (g_pO (fun v135 h_136 p137 => ?_)) g_pOX
          have p137q := p137.2
          obtain ⟨rfl, p137⟩ := p137
          have x142 := lsG.E p137
          have f143 := lsG.ob p137 t124 f122 (by decide)
          have f144 := lsG.ob p137 t124 f125 (by decide)
          obtain ⟨d145, m146, l147, -, hd_d145, hk_d145⟩ := p137
          have d148 := lsd_step hKA t124 l147 hd_d145 t123 (by omega) hd9
          have l149 := lsG.ls p137q t124 t123 (Ne.symm d61) (fun p q => hd9 p)
          refine g_eqs (st' := []) rfl ?_
          refine g_goto (tgt := 26) F dX2_bestAgain_92 (by decide) ?_
          refine g_lv (lv' := [(0, .ref (A 7 1)), (1, .ref (A 4 w)), (2, .ref q2), (3, .ref q24), (4, .ref q73)]) [0, 1, 2, 3, 4] rfl ?_
          refine g_room (b' := (1 * (8 - (k + 1)) + 0)) (bs' := (15 * (8 - (k + 1)) + 0)) (by omega) (by omega) ?_
          exact g_eql (lv' := [(0, .ref (A 7 1)), (1, .ref (A 4 w)), (2, .ref q2), (3, .ref q24), (4, .ref q73)]) (by rfl) (ih hlt h_136 (nI k) d145 m146 (lsI l9 j (A 3 ((qLow f nb).getD k 0))) x142 f144 (fun _ => d148) l147 (fun i hi => by unfold lsI; by_cases r : i < j; (rw [if_pos r]; exact hS9 i (by omega)); (rw [if_neg r]; by_cases r2 : i = j; (rw [if_pos r2]; exact ⟨_, qLow_gt hlt, rfl⟩); (rw [if_neg r2]; exact hS9 (i - 1) (by omega)))) (ba_step (B := A 3) range_srt hlt (fun i hi => Nat.lt_of_lt_of_le (qLow_gt hi) nb8) hj hZ9 hx0 hjp) f143 l149)
        · have hkb : k < 15 := (by have := qLow_len (f := f) (n := nb); omega)
          have hjl : j < k := Nat.not_le.mp (fun z => c134 (nI_le z (by omega)))
          refine g_aload_n F dX2_bestAgain_60 2 rfl rfl ?_
          refine g_aload_n F dX2_bestAgain_61 3 rfl rfl ?_
          refine g_iload F dX2_bestAgain_62 6 rfl ?_
          refine g_callV (b := (1 * (8 - (k + 1)) + 0) + 1) (bs := (15 * (8 - (k + 1)) + 0) + 15) F dX2_bestAgain_64 mi_J2_get q766 q402 q403 gc_J2 (t124).1 (ct_J2_getL t124 rfl hjl) rfl rfl (nle rfl) (nle rfl) (nle rfl) (g_pur ?_) g_purX
          obtain ⟨jj, hjj, ej⟩ := hS9 j hjl
          have b157 : h (A 3 jj) = some (.inr (9, [.int (nI jj), .int (f (11 + 4 * jj)), .int (mLoad f nc (nI jj)), .int (mCnt f nc (nI jj)), .int (f (12 + 4 * jj)), .int (f (13 + 4 * jj)), .int (f (14 + 4 * jj))])) := hB _ hjj
          refine g_eqs (st' := [.ref (A 3 jj), .ref q2]) (by rw [ej]) ?_
          refine g_castE F q1179 gc_X5 (x121 _ _ b157) dX2_bestAgain_67 ?_
          refine g_aload F dX2_bestAgain_70 5 rfl ?_
          refine g_callV (b := (1 * (8 - (k + 1)) + 0) + 1) (bs := (15 * (8 - (k + 1)) + 0) + 15) F dX2_bestAgain_72 mi_X16_isAhead_2 q1817 q1117 q1118 gc_X16 f122 (ct_X16_isAhead_2 (th.up x121 hT) f122 hw hjj (qLow_gt hlt)) rfl rfl (nle rfl) (nle rfl) (nle rfl) (g_pur ?_) g_purX
          refine g_if_eq (tgt := 84) F dX2_bestAgain_75 (by decide) (fun c165 => ?_) (fun c165 => ?_)
          · have d1 : ¬ qBt f nc w jj ((qLow f nb).getD k 0) = true := fun z => by rw [if_pos z] at c165; exact absurd c165 (by decide)
            have hbj : ∀ b, j = 0 → qBl f nc w (qLow f nb) k = some b → b = jj := fun b z hb => by subst z; have e9 := (hZ9 b hb).symm.trans ej; have hbn : b < nb := (by obtain ⟨i, hi, rfl⟩ := qBl_lt hb; exact qLow_gt (by omega)); exact Classical.byContradiction (fun q => tLs.ne hB hbn hjj (vB_ne (by omega) (by omega) q) e9)
            have hx0 : j = 0 → ∀ b, qBl f nc w (qLow f nb) k = some b → ¬ qBt f nc w b ((qLow f nb).getD k 0) = true := fun z b hb => by rw [hbj b z hb]; exact d1
            refine g_aload_n F dX2_bestAgain_84 3 rfl rfl ?_
            refine g_iload F dX2_bestAgain_85 6 rfl ?_
            refine g_aload F dX2_bestAgain_87 5 rfl ?_
            refine g_callV (b := (1 * (8 - (k + 1)) + 0)) (bs := (15 * (8 - (k + 1)) + 0)) F dX2_bestAgain_89 mi_J2_add_3 q801 q802 q803 gc_J2 (t124).1 (ct_J2_add_3L (h0 := h) t124 x121 hkb (fun i hi => by obtain ⟨q, hq9, e9⟩ := hS9 i hi; rw [e9]; exact gOb_b (x121 _ _ (hB q hq9))) (gOb_b (x121 _ _ b126)) hKA hj) rfl rfl (nle rfl) (nle rfl) (nle rfl) (g_pO (fun v166 h_167 p168 => ?_)) g_pOX
            have p168q := p168.2
            obtain ⟨rfl, p168⟩ := p168
            have x173 := lsG.E p168
            have f174 := lsG.ob p168 t124 f122 (by decide)
            have f175 := lsG.ob p168 t124 f125 (by decide)
            obtain ⟨d176, m177, l178, -, hd_d176, hk_d176⟩ := p168
            have d179 := lsd_step hKA t124 l178 hd_d176 t123 (by omega) hd9
            have l180 := lsG.ls p168q t124 t123 (Ne.symm d61) (fun p q => hd9 p)
            refine g_eqs (st' := []) rfl ?_
            refine g_goto (tgt := 26) F dX2_bestAgain_92 (by decide) ?_
            refine g_lv (lv' := [(0, .ref (A 7 1)), (1, .ref (A 4 w)), (2, .ref q2), (3, .ref q24), (4, .ref q73)]) [0, 1, 2, 3, 4] rfl ?_
            refine g_room (b' := (1 * (8 - (k + 1)) + 0)) (bs' := (15 * (8 - (k + 1)) + 0)) (by omega) (by omega) ?_
            exact g_eql (lv' := [(0, .ref (A 7 1)), (1, .ref (A 4 w)), (2, .ref q2), (3, .ref q24), (4, .ref q73)]) (by rfl) (ih hlt h_167 (nI k) d176 m177 (lsI l9 j (A 3 ((qLow f nb).getD k 0))) x173 f175 (fun _ => d179) l178 (fun i hi => by unfold lsI; by_cases r : i < j; (rw [if_pos r]; exact hS9 i (by omega)); (rw [if_neg r]; by_cases r2 : i = j; (rw [if_pos r2]; exact ⟨_, qLow_gt hlt, rfl⟩); (rw [if_neg r2]; exact hS9 (i - 1) (by omega)))) (ba_step (B := A 3) range_srt hlt (fun i hi => Nat.lt_of_lt_of_le (qLow_gt hi) nb8) hj hZ9 hx0 hjp) f174 l180)
          · have d1 : qBt f nc w jj ((qLow f nb).getD k 0) = true := Classical.byContradiction (fun z => c165 (by rw [if_neg z]))
            have hbj : ∀ b, j = 0 → qBl f nc w (qLow f nb) k = some b → b = jj := fun b z hb => by subst z; have e9 := (hZ9 b hb).symm.trans ej; have hbn : b < nb := (by obtain ⟨i, hi, rfl⟩ := qBl_lt hb; exact qLow_gt (by omega)); exact Classical.byContradiction (fun q => tLs.ne hB hbn hjj (vB_ne (by omega) (by omega) q) e9)
            have hj1 : 0 < j + 1 → ∀ b, qBl f nc w (qLow f nb) k = some b → qBt f nc w b ((qLow f nb).getD k 0) = true := fun _ b hb => by rcases Nat.eq_zero_or_pos j with z | z; (rw [hbj b z hb]; exact d1); exact hjp z b hb
            refine g_iinc (lv' := [(6, .int ((nI j) + 1)), (0, .ref (A 7 1)), (1, .ref (A 4 w)), (2, .ref q2), (3, .ref q24), (4, .ref q73), (5, .ref (A 3 ((qLow f nb).getD k 0)))]) (v := (nI j) + 1) F dX2_bestAgain_78 (k := 6) rfl rfl (by decide) rfl ?_
            refine g_goto (tgt := 51) F dX2_bestAgain_81 (by decide) ?_
            refine g_lv (lv' := [(0, .ref (A 7 1)), (1, .ref (A 4 w)), (2, .ref q2), (3, .ref q24), (4, .ref q73), (5, .ref (A 3 ((qLow f nb).getD k 0))), (6, .int ((nI j) + 1))]) [1, 2, 3, 4, 5, 6, 0] rfl ?_
            exact g_eql (lv' := [(0, .ref (A 7 1)), (1, .ref (A 4 w)), (2, .ref q2), (3, .ref q24), (4, .ref q73), (5, .ref (A 3 ((qLow f nb).getD k 0))), (6, .int (nI ((j + 1))))]) (by simp only [nI_1]) (ihj hjl hj1)
      refine g_lv (lv' := [(0, .ref (A 7 1)), (1, .ref (A 4 w)), (2, .ref q2), (3, .ref q24), (4, .ref q73), (5, .ref (A 3 ((qLow f nb).getD k 0))), (6, .int 0)]) [2, 3, 4, 5, 6, 1, 0] rfl ?_
      exact lpj 0 (Nat.zero_le _) (fun z => absurd z (Nat.lt_irrefl 0))
  have f181 := lsO_0 (K := K) (N := gNw K h) (l := A 3) f85 ⟨w27, ho_e26⟩
  refine g_lv (lv' := [(0, .ref (A 7 1)), (1, .ref (A 4 w)), (2, .ref q2), (3, .ref q24), (4, .ref q73)]) [3, 4, 2, 1, 0] rfl ?_
  exact lp26 0 (Nat.zero_le _) h_67 (-1) (gAd K 203) 0 (A 3) x83 f87 (fun z => absurd z (Nat.lt_irrefl 0)) f181 (fun i hi => absurd hi (Nat.not_lt_zero i)) (fun b hb => (nomatch hb)) f84 t86
