/-! ===== noiseAgain (written by tools/class22.py) ===== -/
set_option maxHeartbeats 4000000 in
set_option maxRecDepth 100000 in
theorem ct_X2_noiseAgain {K : gK} {N : Nat → Prop} {h : AH} {A : Nat → Nat → Nat} {o : Nat → Nat} {f : Nat → Int32} {nb nc nh nq : Nat} (hT : th K N h A o f nb nc nh nq) {Y : Nat} (hI : xI f nb nc nh nq Y) (hY : Y ≤ 1000000) {i b : Nat} (hi : i < nb) (hb : b ≤ 20) : gCt K yX2_noiseAgain w_X2_noiseAgain 0 0 0 0 h [.ref (A 7 1), .ref (A 3 i), .int (nI b)] (pR (.int (mLoud f i (nI b))) h) := by
  refine g_meth pf_X2_noiseAgain (nle rfl) (fun p e s m args below meth c F hnm htb => ?_)
  have F : gFix K p s m args meth c cX2_noiseAgain 10 RX2 (some .int) := F
  refine g_eql (lv' := [(0, .ref (A 7 1)), (1, .ref (A 3 i)), (2, .int (nI b))]) rfl ?_
  have hTt := hT
  obtain ⟨⟨hT0, hTN⟩, hRw, ⟨MD, hLs⟩, ⟨dz, hZ0, hZN, hZo, hZd⟩, ⟨hB, hBN⟩, ⟨hCu, hCN⟩, ⟨hHa, hHN⟩, hQu, hDj, hSg⟩ := hTt
  have hR0 : h (A 0 0) = some (.inr (3, [.ref (A 1 0), .int 8])) := hRw 0 (by decide)
  have hR1 : h (A 0 1) = some (.inr (3, [.ref (A 1 1), .int 12])) := hRw 1 (by decide)
  have hR2 : h (A 0 2) = some (.inr (3, [.ref (A 1 2), .int 6])) := hRw 2 (by decide)
  have hR3 : h (A 0 3) = some (.inr (3, [.ref (A 1 3), .int 12])) := hRw 3 (by decide)
  have hL0 : lsO K N h (A 1 0) (A 2 0) nb (A 3) (MD 0) := hLs 0 (by decide)
  have hL1 : lsO K N h (A 1 1) (A 2 1) nc (A 4) (MD 1) := hLs 1 (by decide)
  have hL2 : lsO K N h (A 1 2) (A 2 2) nh (A 5) (MD 2) := hLs 2 (by decide)
  have hL3 : lsO K N h (A 1 3) (A 2 3) nq (fun i => A 6 (o i)) (MD 3) := hLs 3 (by decide)
  have nb15 : nb ≤ 15 := hL0.2.2.1
  have nc15 : nc ≤ 15 := hL1.2.2.1
  have nh15 : nh ≤ 15 := hL2.2.2.1
  have nq15 : nq ≤ 15 := hL3.2.2.1
  have hI2 := hI
  obtain ⟨iC, iL, iBa, iWe, iDo, iCu, iMe⟩ := hI
  obtain ⟨f1, nb8, f2, nc12, f3, nh6, f4, nq12⟩ := iC
  obtain ⟨a, ha, ea⟩ := (iBa i hi).1
  obtain ⟨yr, hyr, ey⟩ := (iBa i hi).2.2
  obtain ⟨dd, hdd, ed⟩ := mDoors_b iDo
  have b1 : h (A 3 i) = some (.inr (9, [.int (nI i), .int (f (11 + 4 * i)), .int (mLoad f nc (nI i)), .int (mCnt f nc (nI i)), .int (f (12 + 4 * i)), .int (f (13 + 4 * i)), .int (f (14 + 4 * i))])) := hB _ hi
  refine g_iconst (v := 0) F dX2_noiseAgain_0 rfl ?_
  refine g_istore_n (lv' := [(3, .int 0), (0, .ref (A 7 1)), (1, .ref (A 3 i)), (2, .int (nI b))]) F dX2_noiseAgain_1 rfl (by decide) rfl ?_
  refine g_iconst (v := 0) F dX2_noiseAgain_2 rfl ?_
  refine g_istore (lv' := [(4, .int 0), (3, .int 0), (0, .ref (A 7 1)), (1, .ref (A 3 i)), (2, .int (nI b))]) F dX2_noiseAgain_3 (by decide) rfl ?_
  refine g_iload_n F dX2_noiseAgain_5 4 rfl rfl ?_
  refine g_aload_n F dX2_noiseAgain_6 3 rfl rfl ?_
  refine gf_X2_181_X5 (v := .int (f (11 + 4 * i))) F dX2_noiseAgain_7 b1 rfl ?_
  refine g_icmp_le (tgt := 17) F dX2_noiseAgain_10 (by decide) (fun c2 => ?_) (fun c2 => ?_)
  · have hab : b ≤ a := by rw [ea] at c2; exact (nI_leI (by omega) (by omega)).mp c2
    refine g_iconst (v := (-1)) F dX2_noiseAgain_17 rfl ?_
    refine g_istore (lv' := [(5, .int (-1)), (4, .int 0), (3, .int 0), (0, .ref (A 7 1)), (1, .ref (A 3 i)), (2, .int (nI b))]) F dX2_noiseAgain_18 (by decide) rfl ?_
    refine g_aload_n F dX2_noiseAgain_20 4 rfl rfl ?_
    refine gf_X2_181_X5 (v := .int (f (11 + 4 * i))) F dX2_noiseAgain_21 b1 rfl ?_
    refine g_istore (lv' := [(6, .int (f (11 + 4 * i))), (5, .int (-1)), (4, .int 0), (3, .int 0), (0, .ref (A 7 1)), (1, .ref (A 3 i)), (2, .int (nI b))]) F dX2_noiseAgain_24 (by decide) rfl ?_
    refine g_eql (lv' := [(6, .int (nI (a - 0))), (5, .int (-1)), (4, .int (nI 0)), (3, .int (nI (nzM 4 1 0))), (0, .ref (A 7 1)), (1, .ref (A 3 i)), (2, .int (nI b))]) (by rw [ea]; rfl) ?_
    have lp26d : ∀ k, k ≤ (a - b) → G K p e s m args below meth c (gRm 0 0 0 0) 10 (pR (.int (mLoud f i (nI b))) h) h (0) (0) 26 [(0, .ref (A 7 1)), (1, .ref (A 3 i)), (2, .int (nI b)), (3, .int (nI (nzM 4 1 k))), (4, .int (nI k)), (5, .int (-1)), (6, .int (nI (a - k)))] [] := by
      refine gloop (a - b) (fun k hk ih => ?_)
      refine g_iload F dX2_noiseAgain_26 6 rfl ?_
      refine g_iload_n F dX2_noiseAgain_28 2 rfl rfl ?_
      refine g_icmp_eq (tgt := 60) F dX2_noiseAgain_29 (by decide) (fun c3 => ?_) (fun c3 => ?_)
      · have hkn : a - b = k := by have := (nI_eq (by omega) (by omega)).mp c3; omega
        subst hkn
        refine g_iconst (v := 1) F dX2_noiseAgain_60 rfl ?_
        refine g_istore (lv' := [(6, .int 1), (0, .ref (A 7 1)), (1, .ref (A 3 i)), (2, .int (nI b)), (3, .int (nI (nzM 4 1 (a - b)))), (4, .int (nI (a - b))), (5, .int (-1))]) F dX2_noiseAgain_61 (by decide) rfl ?_
        refine g_lv (lv' := [(0, .ref (A 7 1)), (1, .ref (A 3 i)), (2, .int (nI b)), (3, .int (nI (nzM 4 1 (a - b)))), (6, .int 1)]) [1, 2, 3, 4, 0] rfl ?_
        refine g_eql (lv' := [(0, .ref (A 7 1)), (1, .ref (A 3 i)), (2, .int (nI b)), (3, .int (nI (nzM 4 1 (a - b) + nzM 3 1 0))), (6, .int (nI (0 + 1)))]) rfl ?_
        have lp63 : ∀ k, k ≤ yr → G K p e s m args below meth c (gRm 0 0 0 0) 10 (pR (.int (mLoud f i (nI b))) h) h (0) (0) 63 [(0, .ref (A 7 1)), (1, .ref (A 3 i)), (2, .int (nI b)), (3, .int (nI (nzM 4 1 (a - b) + nzM 3 1 k))), (6, .int (nI (k + 1)))] [] := by
          refine gloop yr (fun k hk ih => ?_)
          refine g_iload F dX2_noiseAgain_63 4 rfl ?_
          refine g_aload_n F dX2_noiseAgain_65 1 rfl rfl ?_
          refine gf_X2_101_X5 (v := .int (f (13 + 4 * i))) F dX2_noiseAgain_66 b1 rfl ?_
          refine g_icmp_gt (tgt := 93) F dX2_noiseAgain_69 (by decide) (fun c4 => ?_) (fun c4 => ?_)
          · have hkn : yr = k := by rw [ey] at c4; have := (nI_ltI (by omega) (by omega)).mp c4; omega
            subst hkn
            refine g_aload_n F dX2_noiseAgain_93 0 rfl rfl ?_
            refine gf_X2_29_X2 (v := .ref (A 7 0)) F dX2_noiseAgain_94 hT0 rfl ?_
            refine g_astore (lv' := [(6, .ref (A 7 0)), (0, .ref (A 7 1)), (1, .ref (A 3 i)), (2, .int (nI b)), (3, .int (nI (nzM 4 1 (a - b) + nzM 3 1 yr)))]) F dX2_noiseAgain_97 (by decide) rfl ?_
            refine g_aload F dX2_noiseAgain_99 0 rfl ?_
            refine g_alen F (by decide) hZ0 dX2_noiseAgain_101 ?_
            refine g_istore (lv' := [(7, .int (nI 4)), (6, .ref (A 7 0)), (0, .ref (A 7 1)), (1, .ref (A 3 i)), (2, .int (nI b)), (3, .int (nI (nzM 4 1 (a - b) + nzM 3 1 yr)))]) F dX2_noiseAgain_102 (by decide) rfl ?_
            refine g_iconst (v := 0) F dX2_noiseAgain_104 rfl ?_
            refine g_istore (lv' := [(8, .int 0), (7, .int (nI 4)), (6, .ref (A 7 0)), (0, .ref (A 7 1)), (1, .ref (A 3 i)), (2, .int (nI b)), (3, .int (nI (nzM 4 1 (a - b) + nzM 3 1 yr)))]) F dX2_noiseAgain_105 (by decide) rfl ?_
            refine g_lv (lv' := [(0, .ref (A 7 1)), (3, .int (nI (nzM 4 1 (a - b) + nzM 3 1 yr))), (6, .ref (A 7 0)), (7, .int (nI 4)), (8, .int 0)]) [3, 6, 2, 1, 0] rfl ?_
            refine g_eql (lv' := [(0, .ref (A 7 1)), (3, .int (nI (nzM 4 1 (a - b) + nzM 3 1 yr) + 2 * mSum (fun k => f (79 + k)) 0)), (6, .ref (A 7 0)), (7, .int (nI 4)), (8, .int (nI 0))]) (by rw [show mSum (fun k => f (79 + k)) 0 = 0 from rfl, Int32.mul_zero, Int32.add_zero]; try rfl) ?_
            have lp107 : ∀ k, k ≤ 4 → G K p e s m args below meth c (gRm 0 0 0 0) 10 (pR (.int (mLoud f i (nI b))) h) h (0) (0) 107 [(0, .ref (A 7 1)), (3, .int (nI (nzM 4 1 (a - b) + nzM 3 1 yr) + 2 * mSum (fun k => f (79 + k)) k)), (6, .ref (A 7 0)), (7, .int (nI 4)), (8, .int (nI k))] [] := by
              refine gloop 4 (fun k hk ih => ?_)
              refine g_iload F dX2_noiseAgain_107 4 rfl ?_
              refine g_iload F dX2_noiseAgain_109 3 rfl ?_
              refine g_icmp_ge (tgt := 140) F dX2_noiseAgain_111 (by decide) (fun c5 => ?_) (fun c5 => ?_)
              · have hkn : 4 = k := by have := (nI_leI (a := 4) (b := k) (by decide) (by omega)).mp c5; omega
                subst hkn
                refine g_iload_n F dX2_noiseAgain_140 1 rfl rfl ?_
                exact g_iret F dX2_noiseAgain_141 (⟨by rw [mLoud_v ea ha hb ey (by omega) ed, show mSum (fun k => f (79 + k)) 4 = nI dd from ed, nzM_4, nzM_3, show (2 : Int32) = nI 2 from rfl, pk_mul, nI_add, show (b - a + (a - b)) / 4 = (a - b) / 4 from by omega], rfl⟩)
              · have hlt : k < 4 := Nat.not_le.mp (fun z => c5 (nI_le z (by omega)))
                refine g_aload F dX2_noiseAgain_114 2 rfl ?_
                refine g_iload F dX2_noiseAgain_116 4 rfl ?_
                refine g_zaldN (i := k) F hZ0 rfl (show k = k by omega) (by omega) (by decide) dX2_noiseAgain_118 ?_
                refine g_istore (lv' := [(9, .int (dz k)), (0, .ref (A 7 1)), (3, .int (nI (nzM 4 1 (a - b) + nzM 3 1 yr) + 2 * mSum (fun k => f (79 + k)) k)), (6, .ref (A 7 0)), (7, .int (nI 4)), (8, .int (nI k))]) F dX2_noiseAgain_119 (by decide) rfl ?_
                refine g_iload_n F dX2_noiseAgain_121 2 rfl rfl ?_
                refine g_iload F dX2_noiseAgain_122 0 rfl ?_
                refine g_if_eq (tgt := 131) F dX2_noiseAgain_124 (by decide) (fun c6 => ?_) (fun c6 => ?_)
                · have d1 : f (79 + k) = 0 := by rw [← hZd k (by omega)]; exact c6
                  refine g_iconst (v := 0) F dX2_noiseAgain_131 rfl ?_
                  refine g_iadd F dX2_noiseAgain_132 ?_
                  refine g_istore_n (lv' := [(3, .int ((nI (nzM 4 1 (a - b) + nzM 3 1 yr) + 2 * mSum (fun k => f (79 + k)) k) + 0)), (9, .int (dz k)), (0, .ref (A 7 1)), (6, .ref (A 7 0)), (7, .int (nI 4)), (8, .int (nI k))]) F dX2_noiseAgain_133 rfl (by decide) rfl ?_
                  refine g_iinc (lv' := [(8, .int ((nI k) + 1)), (3, .int ((nI (nzM 4 1 (a - b) + nzM 3 1 yr) + 2 * mSum (fun k => f (79 + k)) k) + 0)), (9, .int (dz k)), (0, .ref (A 7 1)), (6, .ref (A 7 0)), (7, .int (nI 4))]) (v := (nI k) + 1) F dX2_noiseAgain_134 (k := 5) rfl rfl (by decide) rfl ?_
                  refine g_goto (tgt := 107) F dX2_noiseAgain_137 (by decide) ?_
                  refine g_lv (lv' := [(0, .ref (A 7 1)), (3, .int ((nI (nzM 4 1 (a - b) + nzM 3 1 yr) + 2 * mSum (fun k => f (79 + k)) k) + 0)), (6, .ref (A 7 0)), (7, .int (nI 4)), (8, .int ((nI k) + 1))]) [3, 1, 4, 5, 0] rfl ?_
                  exact g_eql (lv' := [(0, .ref (A 7 1)), (3, .int (nI (nzM 4 1 (a - b) + nzM 3 1 yr) + 2 * mSum (fun k => f (79 + k)) (k + 1))), (6, .ref (A 7 0)), (7, .int (nI 4)), (8, .int (nI (k + 1)))]) (by simp only [mSum_s, d1, nI_1, Int32.mul_add, Int32.mul_zero, Int32.add_zero, Int32.add_assoc]; try rfl) (ih hlt )
                · have d1 : f (79 + k) = 1 := by have d2 := (hZd k (by omega)); rw [d2] at c6; obtain ⟨j, hj, ej⟩ := iDo k (by omega); rcases (show j = 0 ∨ j = 1 by omega) with rfl | rfl; exact absurd ej c6; exact ej
                  refine g_iconst (v := 2) F dX2_noiseAgain_127 rfl ?_
                  refine g_goto (tgt := 132) F dX2_noiseAgain_128 (by decide) ?_
                  refine g_iadd F dX2_noiseAgain_132 ?_
                  refine g_istore_n (lv' := [(3, .int ((nI (nzM 4 1 (a - b) + nzM 3 1 yr) + 2 * mSum (fun k => f (79 + k)) k) + 2)), (9, .int (dz k)), (0, .ref (A 7 1)), (6, .ref (A 7 0)), (7, .int (nI 4)), (8, .int (nI k))]) F dX2_noiseAgain_133 rfl (by decide) rfl ?_
                  refine g_iinc (lv' := [(8, .int ((nI k) + 1)), (3, .int ((nI (nzM 4 1 (a - b) + nzM 3 1 yr) + 2 * mSum (fun k => f (79 + k)) k) + 2)), (9, .int (dz k)), (0, .ref (A 7 1)), (6, .ref (A 7 0)), (7, .int (nI 4))]) (v := (nI k) + 1) F dX2_noiseAgain_134 (k := 5) rfl rfl (by decide) rfl ?_
                  refine g_goto (tgt := 107) F dX2_noiseAgain_137 (by decide) ?_
                  refine g_lv (lv' := [(0, .ref (A 7 1)), (3, .int ((nI (nzM 4 1 (a - b) + nzM 3 1 yr) + 2 * mSum (fun k => f (79 + k)) k) + 2)), (6, .ref (A 7 0)), (7, .int (nI 4)), (8, .int ((nI k) + 1))]) [3, 1, 4, 5, 0] rfl ?_
                  exact g_eql (lv' := [(0, .ref (A 7 1)), (3, .int (nI (nzM 4 1 (a - b) + nzM 3 1 yr) + 2 * mSum (fun k => f (79 + k)) (k + 1))), (6, .ref (A 7 0)), (7, .int (nI 4)), (8, .int (nI (k + 1)))]) (by simp only [mSum_s, d1, nI_1, Int32.mul_add, Int32.mul_zero, Int32.add_zero, Int32.add_assoc]; try rfl) (ih hlt )
            exact lp107 0 (Nat.zero_le _) 
          · have hlt : k < yr := by rw [ey] at c4; have := Nat.not_lt.mp (fun z => c4 (nI_lt z (by omega))); omega
            have hrm : nI (k + 1) - nI (k + 1) / 3 * 3 = nI ((k + 1) % 3) := pk_rem (by omega) (by decide) (by decide)
            refine g_iload_n F dX2_noiseAgain_72 3 rfl rfl ?_
            refine g_iload F dX2_noiseAgain_73 4 rfl ?_
            refine g_iconst (v := 3) F dX2_noiseAgain_75 rfl ?_
            refine g_irem F dX2_noiseAgain_76 (by decide) ?_
            refine g_if_ne (tgt := 84) F dX2_noiseAgain_77 (by decide) (fun c7 => ?_) (fun c7 => ?_)
            · have d1 : ¬ (k + 1) % 3 = 0 := fun z => c7 (by rw [hrm, z]; rfl)
              refine g_iconst (v := 0) F dX2_noiseAgain_84 rfl ?_
              refine g_iadd F dX2_noiseAgain_85 ?_
              refine g_istore_n (lv' := [(3, .int ((nI (nzM 4 1 (a - b) + nzM 3 1 k)) + 0)), (0, .ref (A 7 1)), (1, .ref (A 3 i)), (2, .int (nI b)), (6, .int (nI (k + 1)))]) F dX2_noiseAgain_86 rfl (by decide) rfl ?_
              refine g_iinc (lv' := [(6, .int ((nI (k + 1)) + 1)), (3, .int ((nI (nzM 4 1 (a - b) + nzM 3 1 k)) + 0)), (0, .ref (A 7 1)), (1, .ref (A 3 i)), (2, .int (nI b))]) (v := (nI (k + 1)) + 1) F dX2_noiseAgain_87 (k := 4) rfl rfl (by decide) rfl ?_
              refine g_goto (tgt := 63) F dX2_noiseAgain_90 (by decide) ?_
              refine g_lv (lv' := [(0, .ref (A 7 1)), (1, .ref (A 3 i)), (2, .int (nI b)), (3, .int ((nI (nzM 4 1 (a - b) + nzM 3 1 k)) + 0)), (6, .int ((nI (k + 1)) + 1))]) [2, 3, 4, 1, 0] rfl ?_
              exact g_eql (lv' := [(0, .ref (A 7 1)), (1, .ref (A 3 i)), (2, .int (nI b)), (3, .int (nI (nzM 4 1 (a - b) + nzM 3 1 (k + 1)))), (6, .int (nI ((k + 1) + 1)))]) (by rw [nz3]; (first | rw [if_pos d1] | rw [if_neg d1]); simp only [nI_1, Nat.add_assoc, Int32.add_zero, Nat.add_zero]) (ih hlt )
            · have d1 : (k + 1) % 3 = 0 := by rw [hrm] at c7; exact (nI_eq (b := 0) (by omega) (by decide)).mp c7
              refine g_iconst (v := 1) F dX2_noiseAgain_80 rfl ?_
              refine g_goto (tgt := 85) F dX2_noiseAgain_81 (by decide) ?_
              refine g_iadd F dX2_noiseAgain_85 ?_
              refine g_istore_n (lv' := [(3, .int ((nI (nzM 4 1 (a - b) + nzM 3 1 k)) + 1)), (0, .ref (A 7 1)), (1, .ref (A 3 i)), (2, .int (nI b)), (6, .int (nI (k + 1)))]) F dX2_noiseAgain_86 rfl (by decide) rfl ?_
              refine g_iinc (lv' := [(6, .int ((nI (k + 1)) + 1)), (3, .int ((nI (nzM 4 1 (a - b) + nzM 3 1 k)) + 1)), (0, .ref (A 7 1)), (1, .ref (A 3 i)), (2, .int (nI b))]) (v := (nI (k + 1)) + 1) F dX2_noiseAgain_87 (k := 4) rfl rfl (by decide) rfl ?_
              refine g_goto (tgt := 63) F dX2_noiseAgain_90 (by decide) ?_
              refine g_lv (lv' := [(0, .ref (A 7 1)), (1, .ref (A 3 i)), (2, .int (nI b)), (3, .int ((nI (nzM 4 1 (a - b) + nzM 3 1 k)) + 1)), (6, .int ((nI (k + 1)) + 1))]) [2, 3, 4, 1, 0] rfl ?_
              exact g_eql (lv' := [(0, .ref (A 7 1)), (1, .ref (A 3 i)), (2, .int (nI b)), (3, .int (nI (nzM 4 1 (a - b) + nzM 3 1 (k + 1)))), (6, .int (nI ((k + 1) + 1)))]) (by rw [nz3]; (first | rw [if_pos d1] | rw [if_neg d1]); simp only [nI_1, Nat.add_assoc, Int32.add_zero, Nat.add_zero]) (ih hlt )
        exact lp63 0 (Nat.zero_le _) 
      · have hlt : k < a - b := by have : a - k ≠ b := fun z => c3 (by rw [z]); omega
        have hrm : nI k + 1 - (nI k + 1) / 4 * 4 = nI ((k + 1) % 4) := by rw [nI_1]; exact pk_rem (by omega) (by decide) (by decide)
        have hdn : nI (a - (k + 1)) = nI (a - k) + (-1) := by rw [show a - k = (a - (k + 1)) + 1 by omega, pk_m1]
        refine g_iinc (lv' := [(4, .int ((nI k) + 1)), (0, .ref (A 7 1)), (1, .ref (A 3 i)), (2, .int (nI b)), (3, .int (nI (nzM 4 1 k))), (5, .int (-1)), (6, .int (nI (a - k)))]) (v := (nI k) + 1) F dX2_noiseAgain_32 (k := 4) rfl rfl (by decide) rfl ?_
        refine g_iload_n F dX2_noiseAgain_35 4 rfl rfl ?_
        refine g_iload F dX2_noiseAgain_36 0 rfl ?_
        refine g_iconst (v := 4) F dX2_noiseAgain_38 rfl ?_
        refine g_irem F dX2_noiseAgain_39 (by decide) ?_
        refine g_if_ne (tgt := 47) F dX2_noiseAgain_40 (by decide) (fun c8 => ?_) (fun c8 => ?_)
        · have d1 : ¬ (k + 1) % 4 = 0 := fun z => c8 (by rw [hrm, z]; rfl)
          refine g_iconst (v := 0) F dX2_noiseAgain_47 rfl ?_
          refine g_iadd F dX2_noiseAgain_48 ?_
          refine g_istore_n (lv' := [(3, .int ((nI (nzM 4 1 k)) + 0)), (4, .int ((nI k) + 1)), (0, .ref (A 7 1)), (1, .ref (A 3 i)), (2, .int (nI b)), (5, .int (-1)), (6, .int (nI (a - k)))]) F dX2_noiseAgain_49 rfl (by decide) rfl ?_
          refine g_iload F dX2_noiseAgain_50 6 rfl ?_
          refine g_iload F dX2_noiseAgain_52 5 rfl ?_
          refine g_iadd F dX2_noiseAgain_54 ?_
          refine g_istore (lv' := [(6, .int ((nI (a - k)) + (-1))), (3, .int ((nI (nzM 4 1 k)) + 0)), (4, .int ((nI k) + 1)), (0, .ref (A 7 1)), (1, .ref (A 3 i)), (2, .int (nI b)), (5, .int (-1))]) F dX2_noiseAgain_55 (by decide) rfl ?_
          refine g_goto (tgt := 26) F dX2_noiseAgain_57 (by decide) ?_
          refine g_lv (lv' := [(0, .ref (A 7 1)), (1, .ref (A 3 i)), (2, .int (nI b)), (3, .int ((nI (nzM 4 1 k)) + 0)), (4, .int ((nI k) + 1)), (5, .int (-1)), (6, .int ((nI (a - k)) + (-1)))]) [3, 4, 5, 1, 2, 6, 0] rfl ?_
          exact g_eql (lv' := [(0, .ref (A 7 1)), (1, .ref (A 3 i)), (2, .int (nI b)), (3, .int (nI (nzM 4 1 (k + 1)))), (4, .int (nI (k + 1))), (5, .int (-1)), (6, .int (nI (a - (k + 1))))]) (by rw [nz4]; (first | rw [if_pos d1] | rw [if_neg d1]); rw [hdn]; simp only [nI_1, Nat.add_zero, Int32.add_zero]) (ih hlt )
        · have d1 : (k + 1) % 4 = 0 := by rw [hrm] at c8; exact (nI_eq (b := 0) (by omega) (by decide)).mp c8
          refine g_iconst (v := 1) F dX2_noiseAgain_43 rfl ?_
          refine g_goto (tgt := 48) F dX2_noiseAgain_44 (by decide) ?_
          refine g_iadd F dX2_noiseAgain_48 ?_
          refine g_istore_n (lv' := [(3, .int ((nI (nzM 4 1 k)) + 1)), (4, .int ((nI k) + 1)), (0, .ref (A 7 1)), (1, .ref (A 3 i)), (2, .int (nI b)), (5, .int (-1)), (6, .int (nI (a - k)))]) F dX2_noiseAgain_49 rfl (by decide) rfl ?_
          refine g_iload F dX2_noiseAgain_50 6 rfl ?_
          refine g_iload F dX2_noiseAgain_52 5 rfl ?_
          refine g_iadd F dX2_noiseAgain_54 ?_
          refine g_istore (lv' := [(6, .int ((nI (a - k)) + (-1))), (3, .int ((nI (nzM 4 1 k)) + 1)), (4, .int ((nI k) + 1)), (0, .ref (A 7 1)), (1, .ref (A 3 i)), (2, .int (nI b)), (5, .int (-1))]) F dX2_noiseAgain_55 (by decide) rfl ?_
          refine g_goto (tgt := 26) F dX2_noiseAgain_57 (by decide) ?_
          refine g_lv (lv' := [(0, .ref (A 7 1)), (1, .ref (A 3 i)), (2, .int (nI b)), (3, .int ((nI (nzM 4 1 k)) + 1)), (4, .int ((nI k) + 1)), (5, .int (-1)), (6, .int ((nI (a - k)) + (-1)))]) [3, 4, 5, 1, 2, 6, 0] rfl ?_
          exact g_eql (lv' := [(0, .ref (A 7 1)), (1, .ref (A 3 i)), (2, .int (nI b)), (3, .int (nI (nzM 4 1 (k + 1)))), (4, .int (nI (k + 1))), (5, .int (-1)), (6, .int (nI (a - (k + 1))))]) (by rw [nz4]; (first | rw [if_pos d1] | rw [if_neg d1]); rw [hdn]; simp only [nI_1, Nat.add_zero, Int32.add_zero]) (ih hlt )
    refine g_lv (lv' := [(0, .ref (A 7 1)), (1, .ref (A 3 i)), (2, .int (nI b)), (3, .int (nI (nzM 4 1 0))), (4, .int (nI 0)), (5, .int (-1)), (6, .int (nI (a - 0)))]) [4, 5, 6, 3, 2, 1, 0] rfl ?_
    exact lp26d 0 (Nat.zero_le _) 
  · have hab : a < b := by rw [ea] at c2; exact Nat.not_le.mp (fun z => c2 (nI_le z (by omega)))
    refine g_iconst (v := 1) F dX2_noiseAgain_13 rfl ?_
    refine g_goto (tgt := 18) F dX2_noiseAgain_14 (by decide) ?_
    refine g_istore (lv' := [(5, .int 1), (4, .int 0), (3, .int 0), (0, .ref (A 7 1)), (1, .ref (A 3 i)), (2, .int (nI b))]) F dX2_noiseAgain_18 (by decide) rfl ?_
    refine g_aload_n F dX2_noiseAgain_20 4 rfl rfl ?_
    refine gf_X2_181_X5 (v := .int (f (11 + 4 * i))) F dX2_noiseAgain_21 b1 rfl ?_
    refine g_istore (lv' := [(6, .int (f (11 + 4 * i))), (5, .int 1), (4, .int 0), (3, .int 0), (0, .ref (A 7 1)), (1, .ref (A 3 i)), (2, .int (nI b))]) F dX2_noiseAgain_24 (by decide) rfl ?_
    refine g_eql (lv' := [(6, .int (nI (a + 0))), (5, .int 1), (4, .int (nI 0)), (3, .int (nI (nzM 4 1 0))), (0, .ref (A 7 1)), (1, .ref (A 3 i)), (2, .int (nI b))]) (by rw [ea]; rfl) ?_
    have lp26u : ∀ k, k ≤ (b - a) → G K p e s m args below meth c (gRm 0 0 0 0) 10 (pR (.int (mLoud f i (nI b))) h) h (0) (0) 26 [(0, .ref (A 7 1)), (1, .ref (A 3 i)), (2, .int (nI b)), (3, .int (nI (nzM 4 1 k))), (4, .int (nI k)), (5, .int 1), (6, .int (nI (a + k)))] [] := by
      refine gloop (b - a) (fun k hk ih => ?_)
      refine g_iload F dX2_noiseAgain_26 6 rfl ?_
      refine g_iload_n F dX2_noiseAgain_28 2 rfl rfl ?_
      refine g_icmp_eq (tgt := 60) F dX2_noiseAgain_29 (by decide) (fun c9 => ?_) (fun c9 => ?_)
      · have hkn : b - a = k := by have := (nI_eq (by omega) (by omega)).mp c9; omega
        subst hkn
        refine g_iconst (v := 1) F dX2_noiseAgain_60 rfl ?_
        refine g_istore (lv' := [(6, .int 1), (0, .ref (A 7 1)), (1, .ref (A 3 i)), (2, .int (nI b)), (3, .int (nI (nzM 4 1 (b - a)))), (4, .int (nI (b - a))), (5, .int 1)]) F dX2_noiseAgain_61 (by decide) rfl ?_
        refine g_lv (lv' := [(0, .ref (A 7 1)), (1, .ref (A 3 i)), (2, .int (nI b)), (3, .int (nI (nzM 4 1 (b - a)))), (6, .int 1)]) [1, 2, 3, 4, 0] rfl ?_
        refine g_eql (lv' := [(0, .ref (A 7 1)), (1, .ref (A 3 i)), (2, .int (nI b)), (3, .int (nI (nzM 4 1 (b - a) + nzM 3 1 0))), (6, .int (nI (0 + 1)))]) rfl ?_
        have lp63 : ∀ k, k ≤ yr → G K p e s m args below meth c (gRm 0 0 0 0) 10 (pR (.int (mLoud f i (nI b))) h) h (0) (0) 63 [(0, .ref (A 7 1)), (1, .ref (A 3 i)), (2, .int (nI b)), (3, .int (nI (nzM 4 1 (b - a) + nzM 3 1 k))), (6, .int (nI (k + 1)))] [] := by
          refine gloop yr (fun k hk ih => ?_)
          refine g_iload F dX2_noiseAgain_63 4 rfl ?_
          refine g_aload_n F dX2_noiseAgain_65 1 rfl rfl ?_
          refine gf_X2_101_X5 (v := .int (f (13 + 4 * i))) F dX2_noiseAgain_66 b1 rfl ?_
          refine g_icmp_gt (tgt := 93) F dX2_noiseAgain_69 (by decide) (fun c10 => ?_) (fun c10 => ?_)
          · have hkn : yr = k := by rw [ey] at c10; have := (nI_ltI (by omega) (by omega)).mp c10; omega
            subst hkn
            refine g_aload_n F dX2_noiseAgain_93 0 rfl rfl ?_
            refine gf_X2_29_X2 (v := .ref (A 7 0)) F dX2_noiseAgain_94 hT0 rfl ?_
            refine g_astore (lv' := [(6, .ref (A 7 0)), (0, .ref (A 7 1)), (1, .ref (A 3 i)), (2, .int (nI b)), (3, .int (nI (nzM 4 1 (b - a) + nzM 3 1 yr)))]) F dX2_noiseAgain_97 (by decide) rfl ?_
            refine g_aload F dX2_noiseAgain_99 0 rfl ?_
            refine g_alen F (by decide) hZ0 dX2_noiseAgain_101 ?_
            refine g_istore (lv' := [(7, .int (nI 4)), (6, .ref (A 7 0)), (0, .ref (A 7 1)), (1, .ref (A 3 i)), (2, .int (nI b)), (3, .int (nI (nzM 4 1 (b - a) + nzM 3 1 yr)))]) F dX2_noiseAgain_102 (by decide) rfl ?_
            refine g_iconst (v := 0) F dX2_noiseAgain_104 rfl ?_
            refine g_istore (lv' := [(8, .int 0), (7, .int (nI 4)), (6, .ref (A 7 0)), (0, .ref (A 7 1)), (1, .ref (A 3 i)), (2, .int (nI b)), (3, .int (nI (nzM 4 1 (b - a) + nzM 3 1 yr)))]) F dX2_noiseAgain_105 (by decide) rfl ?_
            refine g_lv (lv' := [(0, .ref (A 7 1)), (3, .int (nI (nzM 4 1 (b - a) + nzM 3 1 yr))), (6, .ref (A 7 0)), (7, .int (nI 4)), (8, .int 0)]) [3, 6, 2, 1, 0] rfl ?_
            refine g_eql (lv' := [(0, .ref (A 7 1)), (3, .int (nI (nzM 4 1 (b - a) + nzM 3 1 yr) + 2 * mSum (fun k => f (79 + k)) 0)), (6, .ref (A 7 0)), (7, .int (nI 4)), (8, .int (nI 0))]) (by rw [show mSum (fun k => f (79 + k)) 0 = 0 from rfl, Int32.mul_zero, Int32.add_zero]; try rfl) ?_
            have lp107 : ∀ k, k ≤ 4 → G K p e s m args below meth c (gRm 0 0 0 0) 10 (pR (.int (mLoud f i (nI b))) h) h (0) (0) 107 [(0, .ref (A 7 1)), (3, .int (nI (nzM 4 1 (b - a) + nzM 3 1 yr) + 2 * mSum (fun k => f (79 + k)) k)), (6, .ref (A 7 0)), (7, .int (nI 4)), (8, .int (nI k))] [] := by
              refine gloop 4 (fun k hk ih => ?_)
              refine g_iload F dX2_noiseAgain_107 4 rfl ?_
              refine g_iload F dX2_noiseAgain_109 3 rfl ?_
              refine g_icmp_ge (tgt := 140) F dX2_noiseAgain_111 (by decide) (fun c11 => ?_) (fun c11 => ?_)
              · have hkn : 4 = k := by have := (nI_leI (a := 4) (b := k) (by decide) (by omega)).mp c11; omega
                subst hkn
                refine g_iload_n F dX2_noiseAgain_140 1 rfl rfl ?_
                exact g_iret F dX2_noiseAgain_141 (⟨by rw [mLoud_v ea ha hb ey (by omega) ed, show mSum (fun k => f (79 + k)) 4 = nI dd from ed, nzM_4, nzM_3, show (2 : Int32) = nI 2 from rfl, pk_mul, nI_add, show (b - a + (a - b)) / 4 = (b - a) / 4 from by omega], rfl⟩)
              · have hlt : k < 4 := Nat.not_le.mp (fun z => c11 (nI_le z (by omega)))
                refine g_aload F dX2_noiseAgain_114 2 rfl ?_
                refine g_iload F dX2_noiseAgain_116 4 rfl ?_
                refine g_zaldN (i := k) F hZ0 rfl (show k = k by omega) (by omega) (by decide) dX2_noiseAgain_118 ?_
                refine g_istore (lv' := [(9, .int (dz k)), (0, .ref (A 7 1)), (3, .int (nI (nzM 4 1 (b - a) + nzM 3 1 yr) + 2 * mSum (fun k => f (79 + k)) k)), (6, .ref (A 7 0)), (7, .int (nI 4)), (8, .int (nI k))]) F dX2_noiseAgain_119 (by decide) rfl ?_
                refine g_iload_n F dX2_noiseAgain_121 2 rfl rfl ?_
                refine g_iload F dX2_noiseAgain_122 0 rfl ?_
                refine g_if_eq (tgt := 131) F dX2_noiseAgain_124 (by decide) (fun c12 => ?_) (fun c12 => ?_)
                · have d1 : f (79 + k) = 0 := by rw [← hZd k (by omega)]; exact c12
                  refine g_iconst (v := 0) F dX2_noiseAgain_131 rfl ?_
                  refine g_iadd F dX2_noiseAgain_132 ?_
                  refine g_istore_n (lv' := [(3, .int ((nI (nzM 4 1 (b - a) + nzM 3 1 yr) + 2 * mSum (fun k => f (79 + k)) k) + 0)), (9, .int (dz k)), (0, .ref (A 7 1)), (6, .ref (A 7 0)), (7, .int (nI 4)), (8, .int (nI k))]) F dX2_noiseAgain_133 rfl (by decide) rfl ?_
                  refine g_iinc (lv' := [(8, .int ((nI k) + 1)), (3, .int ((nI (nzM 4 1 (b - a) + nzM 3 1 yr) + 2 * mSum (fun k => f (79 + k)) k) + 0)), (9, .int (dz k)), (0, .ref (A 7 1)), (6, .ref (A 7 0)), (7, .int (nI 4))]) (v := (nI k) + 1) F dX2_noiseAgain_134 (k := 5) rfl rfl (by decide) rfl ?_
                  refine g_goto (tgt := 107) F dX2_noiseAgain_137 (by decide) ?_
                  refine g_lv (lv' := [(0, .ref (A 7 1)), (3, .int ((nI (nzM 4 1 (b - a) + nzM 3 1 yr) + 2 * mSum (fun k => f (79 + k)) k) + 0)), (6, .ref (A 7 0)), (7, .int (nI 4)), (8, .int ((nI k) + 1))]) [3, 1, 4, 5, 0] rfl ?_
                  exact g_eql (lv' := [(0, .ref (A 7 1)), (3, .int (nI (nzM 4 1 (b - a) + nzM 3 1 yr) + 2 * mSum (fun k => f (79 + k)) (k + 1))), (6, .ref (A 7 0)), (7, .int (nI 4)), (8, .int (nI (k + 1)))]) (by simp only [mSum_s, d1, nI_1, Int32.mul_add, Int32.mul_zero, Int32.add_zero, Int32.add_assoc]; try rfl) (ih hlt )
                · have d1 : f (79 + k) = 1 := by have d2 := (hZd k (by omega)); rw [d2] at c12; obtain ⟨j, hj, ej⟩ := iDo k (by omega); rcases (show j = 0 ∨ j = 1 by omega) with rfl | rfl; exact absurd ej c12; exact ej
                  refine g_iconst (v := 2) F dX2_noiseAgain_127 rfl ?_
                  refine g_goto (tgt := 132) F dX2_noiseAgain_128 (by decide) ?_
                  refine g_iadd F dX2_noiseAgain_132 ?_
                  refine g_istore_n (lv' := [(3, .int ((nI (nzM 4 1 (b - a) + nzM 3 1 yr) + 2 * mSum (fun k => f (79 + k)) k) + 2)), (9, .int (dz k)), (0, .ref (A 7 1)), (6, .ref (A 7 0)), (7, .int (nI 4)), (8, .int (nI k))]) F dX2_noiseAgain_133 rfl (by decide) rfl ?_
                  refine g_iinc (lv' := [(8, .int ((nI k) + 1)), (3, .int ((nI (nzM 4 1 (b - a) + nzM 3 1 yr) + 2 * mSum (fun k => f (79 + k)) k) + 2)), (9, .int (dz k)), (0, .ref (A 7 1)), (6, .ref (A 7 0)), (7, .int (nI 4))]) (v := (nI k) + 1) F dX2_noiseAgain_134 (k := 5) rfl rfl (by decide) rfl ?_
                  refine g_goto (tgt := 107) F dX2_noiseAgain_137 (by decide) ?_
                  refine g_lv (lv' := [(0, .ref (A 7 1)), (3, .int ((nI (nzM 4 1 (b - a) + nzM 3 1 yr) + 2 * mSum (fun k => f (79 + k)) k) + 2)), (6, .ref (A 7 0)), (7, .int (nI 4)), (8, .int ((nI k) + 1))]) [3, 1, 4, 5, 0] rfl ?_
                  exact g_eql (lv' := [(0, .ref (A 7 1)), (3, .int (nI (nzM 4 1 (b - a) + nzM 3 1 yr) + 2 * mSum (fun k => f (79 + k)) (k + 1))), (6, .ref (A 7 0)), (7, .int (nI 4)), (8, .int (nI (k + 1)))]) (by simp only [mSum_s, d1, nI_1, Int32.mul_add, Int32.mul_zero, Int32.add_zero, Int32.add_assoc]; try rfl) (ih hlt )
            exact lp107 0 (Nat.zero_le _) 
          · have hlt : k < yr := by rw [ey] at c10; have := Nat.not_lt.mp (fun z => c10 (nI_lt z (by omega))); omega
            have hrm : nI (k + 1) - nI (k + 1) / 3 * 3 = nI ((k + 1) % 3) := pk_rem (by omega) (by decide) (by decide)
            refine g_iload_n F dX2_noiseAgain_72 3 rfl rfl ?_
            refine g_iload F dX2_noiseAgain_73 4 rfl ?_
            refine g_iconst (v := 3) F dX2_noiseAgain_75 rfl ?_
            refine g_irem F dX2_noiseAgain_76 (by decide) ?_
            refine g_if_ne (tgt := 84) F dX2_noiseAgain_77 (by decide) (fun c13 => ?_) (fun c13 => ?_)
            · have d1 : ¬ (k + 1) % 3 = 0 := fun z => c13 (by rw [hrm, z]; rfl)
              refine g_iconst (v := 0) F dX2_noiseAgain_84 rfl ?_
              refine g_iadd F dX2_noiseAgain_85 ?_
              refine g_istore_n (lv' := [(3, .int ((nI (nzM 4 1 (b - a) + nzM 3 1 k)) + 0)), (0, .ref (A 7 1)), (1, .ref (A 3 i)), (2, .int (nI b)), (6, .int (nI (k + 1)))]) F dX2_noiseAgain_86 rfl (by decide) rfl ?_
              refine g_iinc (lv' := [(6, .int ((nI (k + 1)) + 1)), (3, .int ((nI (nzM 4 1 (b - a) + nzM 3 1 k)) + 0)), (0, .ref (A 7 1)), (1, .ref (A 3 i)), (2, .int (nI b))]) (v := (nI (k + 1)) + 1) F dX2_noiseAgain_87 (k := 4) rfl rfl (by decide) rfl ?_
              refine g_goto (tgt := 63) F dX2_noiseAgain_90 (by decide) ?_
              refine g_lv (lv' := [(0, .ref (A 7 1)), (1, .ref (A 3 i)), (2, .int (nI b)), (3, .int ((nI (nzM 4 1 (b - a) + nzM 3 1 k)) + 0)), (6, .int ((nI (k + 1)) + 1))]) [2, 3, 4, 1, 0] rfl ?_
              exact g_eql (lv' := [(0, .ref (A 7 1)), (1, .ref (A 3 i)), (2, .int (nI b)), (3, .int (nI (nzM 4 1 (b - a) + nzM 3 1 (k + 1)))), (6, .int (nI ((k + 1) + 1)))]) (by rw [nz3]; (first | rw [if_pos d1] | rw [if_neg d1]); simp only [nI_1, Nat.add_assoc, Int32.add_zero, Nat.add_zero]) (ih hlt )
            · have d1 : (k + 1) % 3 = 0 := by rw [hrm] at c13; exact (nI_eq (b := 0) (by omega) (by decide)).mp c13
              refine g_iconst (v := 1) F dX2_noiseAgain_80 rfl ?_
              refine g_goto (tgt := 85) F dX2_noiseAgain_81 (by decide) ?_
              refine g_iadd F dX2_noiseAgain_85 ?_
              refine g_istore_n (lv' := [(3, .int ((nI (nzM 4 1 (b - a) + nzM 3 1 k)) + 1)), (0, .ref (A 7 1)), (1, .ref (A 3 i)), (2, .int (nI b)), (6, .int (nI (k + 1)))]) F dX2_noiseAgain_86 rfl (by decide) rfl ?_
              refine g_iinc (lv' := [(6, .int ((nI (k + 1)) + 1)), (3, .int ((nI (nzM 4 1 (b - a) + nzM 3 1 k)) + 1)), (0, .ref (A 7 1)), (1, .ref (A 3 i)), (2, .int (nI b))]) (v := (nI (k + 1)) + 1) F dX2_noiseAgain_87 (k := 4) rfl rfl (by decide) rfl ?_
              refine g_goto (tgt := 63) F dX2_noiseAgain_90 (by decide) ?_
              refine g_lv (lv' := [(0, .ref (A 7 1)), (1, .ref (A 3 i)), (2, .int (nI b)), (3, .int ((nI (nzM 4 1 (b - a) + nzM 3 1 k)) + 1)), (6, .int ((nI (k + 1)) + 1))]) [2, 3, 4, 1, 0] rfl ?_
              exact g_eql (lv' := [(0, .ref (A 7 1)), (1, .ref (A 3 i)), (2, .int (nI b)), (3, .int (nI (nzM 4 1 (b - a) + nzM 3 1 (k + 1)))), (6, .int (nI ((k + 1) + 1)))]) (by rw [nz3]; (first | rw [if_pos d1] | rw [if_neg d1]); simp only [nI_1, Nat.add_assoc, Int32.add_zero, Nat.add_zero]) (ih hlt )
        exact lp63 0 (Nat.zero_le _) 
      · have hlt : k < b - a := by have : a + k ≠ b := fun z => c9 (by rw [z]); omega
        have hrm : nI k + 1 - (nI k + 1) / 4 * 4 = nI ((k + 1) % 4) := by rw [nI_1]; exact pk_rem (by omega) (by decide) (by decide)
        refine g_iinc (lv' := [(4, .int ((nI k) + 1)), (0, .ref (A 7 1)), (1, .ref (A 3 i)), (2, .int (nI b)), (3, .int (nI (nzM 4 1 k))), (5, .int 1), (6, .int (nI (a + k)))]) (v := (nI k) + 1) F dX2_noiseAgain_32 (k := 4) rfl rfl (by decide) rfl ?_
        refine g_iload_n F dX2_noiseAgain_35 4 rfl rfl ?_
        refine g_iload F dX2_noiseAgain_36 0 rfl ?_
        refine g_iconst (v := 4) F dX2_noiseAgain_38 rfl ?_
        refine g_irem F dX2_noiseAgain_39 (by decide) ?_
        refine g_if_ne (tgt := 47) F dX2_noiseAgain_40 (by decide) (fun c14 => ?_) (fun c14 => ?_)
        · have d1 : ¬ (k + 1) % 4 = 0 := fun z => c14 (by rw [hrm, z]; rfl)
          refine g_iconst (v := 0) F dX2_noiseAgain_47 rfl ?_
          refine g_iadd F dX2_noiseAgain_48 ?_
          refine g_istore_n (lv' := [(3, .int ((nI (nzM 4 1 k)) + 0)), (4, .int ((nI k) + 1)), (0, .ref (A 7 1)), (1, .ref (A 3 i)), (2, .int (nI b)), (5, .int 1), (6, .int (nI (a + k)))]) F dX2_noiseAgain_49 rfl (by decide) rfl ?_
          refine g_iload F dX2_noiseAgain_50 6 rfl ?_
          refine g_iload F dX2_noiseAgain_52 5 rfl ?_
          refine g_iadd F dX2_noiseAgain_54 ?_
          refine g_istore (lv' := [(6, .int ((nI (a + k)) + 1)), (3, .int ((nI (nzM 4 1 k)) + 0)), (4, .int ((nI k) + 1)), (0, .ref (A 7 1)), (1, .ref (A 3 i)), (2, .int (nI b)), (5, .int 1)]) F dX2_noiseAgain_55 (by decide) rfl ?_
          refine g_goto (tgt := 26) F dX2_noiseAgain_57 (by decide) ?_
          refine g_lv (lv' := [(0, .ref (A 7 1)), (1, .ref (A 3 i)), (2, .int (nI b)), (3, .int ((nI (nzM 4 1 k)) + 0)), (4, .int ((nI k) + 1)), (5, .int 1), (6, .int ((nI (a + k)) + 1))]) [3, 4, 5, 1, 2, 6, 0] rfl ?_
          exact g_eql (lv' := [(0, .ref (A 7 1)), (1, .ref (A 3 i)), (2, .int (nI b)), (3, .int (nI (nzM 4 1 (k + 1)))), (4, .int (nI (k + 1))), (5, .int 1), (6, .int (nI (a + (k + 1))))]) (by rw [nz4]; (first | rw [if_pos d1] | rw [if_neg d1]); simp only [nI_1, Nat.add_assoc, Int32.add_zero, Nat.add_zero]) (ih hlt )
        · have d1 : (k + 1) % 4 = 0 := by rw [hrm] at c14; exact (nI_eq (b := 0) (by omega) (by decide)).mp c14
          refine g_iconst (v := 1) F dX2_noiseAgain_43 rfl ?_
          refine g_goto (tgt := 48) F dX2_noiseAgain_44 (by decide) ?_
          refine g_iadd F dX2_noiseAgain_48 ?_
          refine g_istore_n (lv' := [(3, .int ((nI (nzM 4 1 k)) + 1)), (4, .int ((nI k) + 1)), (0, .ref (A 7 1)), (1, .ref (A 3 i)), (2, .int (nI b)), (5, .int 1), (6, .int (nI (a + k)))]) F dX2_noiseAgain_49 rfl (by decide) rfl ?_
          refine g_iload F dX2_noiseAgain_50 6 rfl ?_
          refine g_iload F dX2_noiseAgain_52 5 rfl ?_
          refine g_iadd F dX2_noiseAgain_54 ?_
          refine g_istore (lv' := [(6, .int ((nI (a + k)) + 1)), (3, .int ((nI (nzM 4 1 k)) + 1)), (4, .int ((nI k) + 1)), (0, .ref (A 7 1)), (1, .ref (A 3 i)), (2, .int (nI b)), (5, .int 1)]) F dX2_noiseAgain_55 (by decide) rfl ?_
          refine g_goto (tgt := 26) F dX2_noiseAgain_57 (by decide) ?_
          refine g_lv (lv' := [(0, .ref (A 7 1)), (1, .ref (A 3 i)), (2, .int (nI b)), (3, .int ((nI (nzM 4 1 k)) + 1)), (4, .int ((nI k) + 1)), (5, .int 1), (6, .int ((nI (a + k)) + 1))]) [3, 4, 5, 1, 2, 6, 0] rfl ?_
          exact g_eql (lv' := [(0, .ref (A 7 1)), (1, .ref (A 3 i)), (2, .int (nI b)), (3, .int (nI (nzM 4 1 (k + 1)))), (4, .int (nI (k + 1))), (5, .int 1), (6, .int (nI (a + (k + 1))))]) (by rw [nz4]; (first | rw [if_pos d1] | rw [if_neg d1]); simp only [nI_1, Nat.add_assoc, Int32.add_zero, Nat.add_zero]) (ih hlt )
    refine g_lv (lv' := [(0, .ref (A 7 1)), (1, .ref (A 3 i)), (2, .int (nI b)), (3, .int (nI (nzM 4 1 0))), (4, .int (nI 0)), (5, .int 1), (6, .int (nI (a + 0)))]) [4, 5, 6, 3, 2, 1, 0] rfl ?_
    exact lp26u 0 (Nat.zero_le _) 
