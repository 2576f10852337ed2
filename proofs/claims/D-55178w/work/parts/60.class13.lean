/-! ===== The theatre: cues by light (written by tools/class13.py) ===== -/
theorem in_X14 : ∀ w ∈ u_ws RX14 gTE 0, w ∈ lw_all := fun w hw => by cases hw
def tyX14 : Nat → FieldType := fun _ => .int
theorem tyX14_ok : ∀ k, k < 0 → parseFieldDescriptor (gTE k).2.2.1 = some (tyX14 k) := fun k h => absurd h (Nat.not_lt_zero k)
theorem nf_X14 : ∀ j, j < 0 → defaultValue (tyX14 j) = vp_V [] j := fun k h => absurd h (Nat.not_lt_zero k)
set_option maxHeartbeats 4000000 in
set_option maxRecDepth 100000 in
theorem ct_X14_init {K : gK} {h : AH} {a : Nat} : gCt K yX14_init w_X14_init 1 12 0 0 h [.ref a] (pV h) := by
  refine g_meth pf_X14_init (nle rfl) (fun p e s m args below meth c F hnm htb => ?_)
  have F : gFix K p s m args meth c cX14_init 1 RX14 none := F
  refine g_eql (lv' := [(0, .ref a)]) rfl ?_
  refine g_aload_n F dX14_init_0 0 rfl rfl ?_
  refine g_objInit F q739 q124 q125 dX14_init_1 (nle rfl) (nle rfl) ?_
  exact g_vret F dX14_init_4 (⟨rfl, rfl⟩)
set_option maxHeartbeats 4000000 in
set_option maxRecDepth 100000 in
theorem ct_X2_cuesAbove {K : gK} {N : Nat → Prop} {h : AH} {A : Nat → Nat → Nat} {o : Nat → Nat} {f : Nat → Int32} {nb nc nh nq : Nat} (hT : th K N h A o f nb nc nh nq) {x : Int32} {Y : Nat} (hI : xI f nb nc nh nq Y) (hKA : gKA K) : gCt K yX2_cuesAbove w_X2_cuesAbove 6 138 15 185 h [.ref (A 7 1), .int x] (pO (lsW K h (A 6) (qAb f x nq))) := by
  refine g_meth pf_X2_cuesAbove (nle rfl) (fun p e s m args below meth c F hnm htb => ?_)
  have F : gFix K p s m args meth c cX2_cuesAbove 7 RX2 (some (.object "java/util/ArrayList")) := F
  refine g_eql (lv' := [(0, .ref (A 7 1)), (1, .int x)]) rfl ?_
  have hTt := hT
  obtain ⟨⟨hT0, hTN⟩, hRw, ⟨MD, hLs⟩, ⟨dz, hZ0, hZN, hZo, hZd⟩, ⟨hB, hBN⟩, ⟨hCu, hCN⟩, ⟨hHa, hHN⟩, hQu, hDj, hSg⟩ := hTt
  have hR0 : h (A 0 0) = some (.inr (3, [.ref (A 1 0), .int 8])) := hRw 0 (by decide)
  have hR1 : h (A 0 1) = some (.inr (3, [.ref (A 1 1), .int 12])) := hRw 1 (by decide)
  have hR2 : h (A 0 2) = some (.inr (3, [.ref (A 1 2), .int 6])) := hRw 2 (by decide)
  have hR3 : h (A 0 3) = some (.inr (3, [.ref (A 1 3), .int 12])) := hRw 3 (by decide)
  have hL0 : lsO K N h (A 1 0) (A 2 0) nb (A 3) (MD 0) := hLs 0 (by decide)
  have hL1 : lsO K N h (A 1 1) (A 2 1) nc (A 4) (MD 1) := hLs 1 (by decide)
  have hL2 : lsO K N h (A 1 2) (A 2 2) nh (A 5) (MD 2) := hLs 2 (by decide)
  have hL3 : lsO K N h (A 1 3) (A 2 3) nq (fun i => A 6 (o i)) (MD 3) := hLs 3 (by decide)
  have nb15 : nb ≤ 15 := hL0.2.2.1
  have nc15 : nc ≤ 15 := hL1.2.2.1
  have nh15 : nh ≤ 15 := hL2.2.2.1
  have nq15 : nq ≤ 15 := hL3.2.2.1
  obtain ⟨iC, iL, iBa, iWe, iDo, iCu, iMe⟩ := hI
  obtain ⟨f1, nb8, f2, nc12, f3, nh6, f4, nq12⟩ := iC
  refine g_new (fs := []) (b := 14) (bs := 185) F in_X14 tyX14 tyX14_ok q734 q735 q107 gc_X14 nf_X14 dX2_cuesAbove_0 (fun q1 h_2 hn_e3 ho_e3 e3 => ?_)
  have w4 := gE.no gE.rf hn_e3
  have d5 := gnew hn_e3 (hL0).1
  have d6 := gnew hn_e3 (hL1).1
  have d7 := gnew hn_e3 (hL2).1
  have d8 := gnew hn_e3 (hL3).1
  have x9 := gE.new1 gE.rf e3 hn_e3
  have f10 := gu_a e3
  refine g_dup F dX2_cuesAbove_3 rfl ?_
  refine g_callIN F dX2_cuesAbove_4 mi_X14_init rfl q736 q737 ct_X14_init rfl rfl (nle rfl) (nle rfl) (nle rfl) (g_purv ?_) g_purvX
  refine g_astore_n (lv' := [(2, .ref q1), (0, .ref (A 7 1)), (1, .int x)]) F dX2_cuesAbove_7 rfl (by decide) rfl ?_
  refine g_new (fs := [.int 0, .null, .int 0]) (b := 13) (bs := 182) F in_J2 tyJ2 tyJ2_ok q741 q139 q74 gc_J2 nf_J2 dX2_cuesAbove_8 (fun q18 h_19 hn_e20 ho_e20 e20 => ?_)
  have w21 := gE.no x9 hn_e20
  have d22 := gnew hn_e20 ((lsO.up x9 hL0)).1
  have d23 := gnew hn_e20 ((lsO.up x9 hL1)).1
  have d24 := gnew hn_e20 ((lsO.up x9 hL2)).1
  have d25 := gnew hn_e20 ((lsO.up x9 hL3)).1
  have d26 := gnew hn_e20 f10
  have x27 := gE.new1 x9 e20 hn_e20
  have f28 := gu_t e20 f10 d26
  have f29 := gu_a e20
  refine g_dup F dX2_cuesAbove_11 rfl ?_
  refine g_callI F dX2_cuesAbove_12 mi_J2_init rfl q742 q141 (ct_J2_init f29 ho_e20) rfl rfl (nle rfl) (nle rfl) (nle rfl) (g_purv ?_) g_purvX
  refine g_gen (fun h_37 e38 => ?_)
  have x39 := gE.wr1 x27 e38 w21
  have e40 := (by rw [e38, e20, gu_gu] : h_37 = gu h_2 q18 _)
  have f41 := gu_t e38 f28 d26
  have f42 := gu_a e38
  refine g_astore_n (lv' := [(3, .ref q18), (2, .ref q1), (0, .ref (A 7 1)), (1, .int x)]) F dX2_cuesAbove_15 rfl (by decide) rfl ?_
  refine g_aload_n F dX2_cuesAbove_16 2 rfl rfl ?_
  refine gf_X2_26_X2 (v := .ref (A 0 3)) F dX2_cuesAbove_17 (x39 _ _ hT0) rfl ?_
  refine g_callV (b := 12) (bs := 180) F dX2_cuesAbove_20 mi_X3_iterator q743 q744 q745 gc_X3 (x39 _ _ hR3) ct_X3_iterator rfl rfl (nle rfl) (nle rfl) (nle rfl) (g_pO (fun v43 h_44 p45 => ?_)) g_pOX
  obtain ⟨q50, rfl, hn_e51, ho_e51, e51⟩ := p45
  have w52 := gE.no x39 hn_e51
  have d53 := gnew hn_e51 ((lsO.up x39 hL0)).1
  have d54 := gnew hn_e51 ((lsO.up x39 hL1)).1
  have d55 := gnew hn_e51 ((lsO.up x39 hL2)).1
  have d56 := gnew hn_e51 ((lsO.up x39 hL3)).1
  have d57 := gnew hn_e51 f41
  have d58 := gnew hn_e51 f42
  have x59 := gE.new1 x39 e51 hn_e51
  have f60 := gu_t e51 f41 d57
  have f61 := gu_t e51 f42 d58
  have f62 := gu_a e51
  refine g_eqs (st' := [.ref q50]) rfl ?_
  refine g_astore (lv' := [(4, .ref q50), (3, .ref q18), (2, .ref q1), (0, .ref (A 7 1)), (1, .int x)]) F dX2_cuesAbove_23 (by decide) rfl ?_
  have lp25 : ∀ k, k ≤ nq → ∀ (h9 : AH) (d9 : Nat) (md9 : Int32), (gE h h9) → (h9 q50 = some (.inr (13, [.int (nI k), .ref (A 0 3)]))) → (lsO K (gNw K h) h9 q18 d9 (srt (fun j => decide (x < f (83 + 4 * j))) o k).length (fun i => A 6 ((srt (fun j => decide (x < f (83 + 4 * j))) o k).getD i 0)) md9) → (h9 q1 = some (.inr (14, []))) → G K p e s m args below meth c (gRm 6 138 15 185) 7 (pO (lsW K h (A 6) (qAb f x nq))) h9 (1 * (12 - k) + 0) (15 * (12 - k) + 0) 25 [(0, .ref (A 7 1)), (1, .int x), (2, .ref q1), (3, .ref q18), (4, .ref q50)] [] := by
    refine gloop nq (fun k hk ih => ?_)
    intro h9 d9 md9 hE9 hs9 hl9 hq9
    refine g_aload F dX2_cuesAbove_25 4 rfl ?_
    refine g_callF (x := ⟨"java/util/Iterator", "hasNext", "()Z"⟩) (b := 1 * (12 - k)) (bs := 15 * (12 - k)) F dX2_cuesAbove_27 mi_X13_hasNext rfl q761 0 rfl q372 q370 gc_X13 hs9 (ct_X13_hasNext (k := k) (hE9 _ _ hR3) (lsO.up hE9 hL3) hs9 (by omega)) rfl rfl (nle rfl) (nle rfl) (nle rfl) (g_pur ?_) g_purX
    refine g_if_eq (tgt := 103) F dX2_cuesAbove_32 (by decide) (fun c70 => ?_) (fun c70 => ?_)
    · have hkn : nq = k := by have : ¬ k < nq := (fun z => by simp [z] at c70); omega
      subst hkn
      refine g_room (b' := 0) (bs' := 0) (by omega) (by omega) ?_
      refine g_aload_n F dX2_cuesAbove_103 3 rfl rfl ?_
      exact g_aret F dX2_cuesAbove_104 (Or.inl ⟨_, rfl⟩) (Or.inr ⟨_, rfl⟩) (⟨_, rfl, q18, d9, md9, rfl, by rw [show qAb f x nq = srt (fun j => decide (x < f (83 + 4 * j))) o nq from (srt_all hSg).symm]; exact hl9, hE9⟩)
    · have hlt : k < nq := Classical.byContradiction (fun z => c70 (by simp [z]))
      refine g_room (b' := (1 * (12 - (k + 1)) + 0) + 1) (bs' := (15 * (12 - (k + 1)) + 0) + 15) (by omega) (by omega) ?_
      refine g_aload F dX2_cuesAbove_35 4 rfl ?_
      refine g_callF (x := ⟨"java/util/Iterator", "next", "()Ljava/lang/Object;"⟩) (b := (1 * (12 - (k + 1)) + 0) + 1) (bs := (15 * (12 - (k + 1)) + 0) + 15) F dX2_cuesAbove_37 mi_X13_next rfl q763 3 rfl q394 q392 gc_X13 hs9 (ct_X13_next (hE9 _ _ hR3) (lsO.up hE9 hL3) hs9 ho_e51 hlt (fun i hi => gNum_q (hE9 _ _ (hQu _ (hSg.1 i hi))))) rfl rfl (nle rfl) (nle rfl) (nle rfl) (g_pur ?_) g_purX
      refine g_gen (fun h_78 e79 => ?_)
      have x80 := gE.wr1 hE9 e79 w52
      have f81 := gu_t e79 hq9 d57
      have t82 := lsO.oth e79 hs9 (by decide) hl9
      have f83 := gu_a e79
      have b84 : h (A 6 (o k)) = some (.inr (12, [.int (f (83 + 4 * (o k))), .int (f (84 + 4 * (o k))), .int (f (85 + 4 * (o k))), .int (f (86 + 4 * (o k)))])) := hQu _ (hSg.1 k hlt)
      refine g_eqs (st' := [.ref (A 6 (o k))]) rfl ?_
      refine g_castE F q764 gc_X17 (x80 _ _ b84) dX2_cuesAbove_42 ?_
      refine g_astore (lv' := [(5, .ref (A 6 (o k))), (0, .ref (A 7 1)), (1, .int x), (2, .ref q1), (3, .ref q18), (4, .ref q50)]) F dX2_cuesAbove_45 (by decide) rfl ?_
      refine g_iconst (v := 0) F dX2_cuesAbove_47 rfl ?_
      refine g_istore (lv' := [(6, .int 0), (5, .ref (A 6 (o k))), (0, .ref (A 7 1)), (1, .int x), (2, .ref q1), (3, .ref q18), (4, .ref q50)]) F dX2_cuesAbove_48 (by decide) rfl ?_
      have lpj : ∀ j, j ≤ (srt (fun j => decide (x < f (83 + 4 * j))) o k).length → (j ≤ plc (o k) (srt (fun j => decide (x < f (83 + 4 * j))) o k)) → G K p e s m args below meth c (gRm 6 138 15 185) 7 (pO (lsW K h (A 6) (qAb f x nq))) h_78 ((1 * (12 - (k + 1)) + 0) + 1) ((15 * (12 - (k + 1)) + 0) + 15) 50 [(0, .ref (A 7 1)), (1, .int x), (2, .ref q1), (3, .ref q18), (4, .ref q50), (5, .ref (A 6 (o k))), (6, .int (nI j))] [] := by
        refine gloop ((srt (fun j => decide (x < f (83 + 4 * j))) o k).length) (fun j hj ihj => ?_)
        intro hjp
        refine g_iload F dX2_cuesAbove_50 6 rfl ?_
        refine g_aload_n F dX2_cuesAbove_52 3 rfl rfl ?_
        refine g_callV (b := (1 * (12 - (k + 1)) + 0) + 1) (bs := (15 * (12 - (k + 1)) + 0) + 15) F dX2_cuesAbove_53 mi_J2_size q765 q311 q312 gc_J2 (t82).1 (ct_J2_size (t82).1) rfl rfl (nle rfl) (nle rfl) (nle rfl) (g_pur ?_) g_purX
        refine g_icmp_ge (tgt := 83) F dX2_cuesAbove_56 (by decide) (fun c92 => ?_) (fun c92 => ?_)
        · have hjs : (srt (fun j => decide (x < f (83 + 4 * j))) o k).length ≤ j := (nI_leI (by have := srt_len (P := (fun j => decide (x < f (83 + 4 * j)))) (o := o) (m := k); omega) (by have := srt_len (P := (fun j => decide (x < f (83 + 4 * j)))) (o := o) (m := k); omega)).mp c92
          have hjq : plc (o k) (srt (fun j => decide (x < f (83 + 4 * j))) o k) = j := by have := plc_le (k := o k) (S := (srt (fun j => decide (x < f (83 + 4 * j))) o k)); omega
          refine g_aload F dX2_cuesAbove_83 5 rfl ?_
          refine gf_X2_278_X17 (v := .int (f (83 + 4 * (o k)))) F dX2_cuesAbove_85 (x80 _ _ b84) rfl ?_
          refine g_iload_n F dX2_cuesAbove_88 1 rfl rfl ?_
          refine g_icmp_le (tgt := 100) F dX2_cuesAbove_89 (by decide) (fun c93 => ?_) (fun c93 => ?_)
          · have d3 := Int32.not_lt.mpr c93
            refine g_goto (tgt := 25) F dX2_cuesAbove_100 (by decide) ?_
            refine g_lv (lv' := [(0, .ref (A 7 1)), (1, .int x), (2, .ref q1), (3, .ref q18), (4, .ref q50)]) [0, 1, 2, 3, 4] rfl ?_
            refine g_room (b' := (1 * (12 - (k + 1)) + 0)) (bs' := (15 * (12 - (k + 1)) + 0)) (by omega) (by omega) ?_
            exact g_eql (lv' := [(0, .ref (A 7 1)), (1, .int x), (2, .ref q1), (3, .ref q18), (4, .ref q50)]) (by rfl) (ih hlt h_78 d9 md9 x80 f83 (by rw [srt_s, if_neg (fun z => d3 (of_decide_eq_true z))]; exact t82) f81)
          · have d3 := Int32.not_le.mp c93
            refine g_aload_n F dX2_cuesAbove_92 3 rfl rfl ?_
            refine g_iload F dX2_cuesAbove_93 6 rfl ?_
            refine g_aload F dX2_cuesAbove_95 5 rfl ?_
            refine g_eqs (st' := [.ref (A 6 (o k)), .int (nI (plc (o k) (srt (fun j => decide (x < f (83 + 4 * j))) o k))), .ref q18]) (by rw [hjq]) ?_
            refine g_callV (b := (1 * (12 - (k + 1)) + 0)) (bs := (15 * (12 - (k + 1)) + 0)) F dX2_cuesAbove_97 mi_J2_add_3 q801 q802 q803 gc_J2 (t82).1 (ct_J2_add_3L (h0 := h) t82 x80 (by have := srt_len (P := (fun j => decide (x < f (83 + 4 * j)))) (o := o) (m := k); omega) (fun i hi => gOb_q (x80 _ _ (hQu _ (srt_lt hSg (Nat.le_of_lt hlt) hi)))) (gOb_q (x80 _ _ b84)) hKA (Nat.le_trans (Nat.le_of_eq hjq) hj)) rfl rfl (nle rfl) (nle rfl) (nle rfl) (g_pO (fun v94 h_95 p96 => ?_)) g_pOX
            obtain ⟨rfl, p96⟩ := p96
            have x101 := lsG.E p96
            have f102 := lsG.ob p96 t82 f81 (by decide)
            have f103 := lsG.ob p96 t82 f83 (by decide)
            obtain ⟨d104, m105, l106, -, hd_d104, hk_d104⟩ := p96
            refine g_eqs (st' := []) rfl ?_
            refine g_goto (tgt := 25) F dX2_cuesAbove_100 (by decide) ?_
            refine g_lv (lv' := [(0, .ref (A 7 1)), (1, .int x), (2, .ref q1), (3, .ref q18), (4, .ref q50)]) [0, 1, 2, 3, 4] rfl ?_
            refine g_room (b' := (1 * (12 - (k + 1)) + 0)) (bs' := (15 * (12 - (k + 1)) + 0)) (by omega) (by omega) ?_
            exact g_eql (lv' := [(0, .ref (A 7 1)), (1, .int x), (2, .ref q1), (3, .ref q18), (4, .ref q50)]) (by rfl) (ih hlt h_95 d104 m105 x101 f103 (by rw [srt_s, if_pos (decide_eq_true d3)]; exact col_u l106) f102)
        · have hjl : j < (srt (fun j => decide (x < f (83 + 4 * j))) o k).length := Nat.not_le.mp (fun z => c92 (nI_le z (by have := srt_len (P := (fun j => decide (x < f (83 + 4 * j)))) (o := o) (m := k); omega)))
          refine g_aload_n F dX2_cuesAbove_59 2 rfl rfl ?_
          refine g_aload_n F dX2_cuesAbove_60 3 rfl rfl ?_
          refine g_iload F dX2_cuesAbove_61 6 rfl ?_
          refine g_callV (b := (1 * (12 - (k + 1)) + 0) + 1) (bs := (15 * (12 - (k + 1)) + 0) + 15) F dX2_cuesAbove_63 mi_J2_get q766 q402 q403 gc_J2 (t82).1 (ct_J2_getL t82 rfl hjl) rfl rfl (nle rfl) (nle rfl) (nle rfl) (g_pur ?_) g_purX
          have hwj : (srt (fun j => decide (x < f (83 + 4 * j))) o k).getD j 0 < nq := srt_lt hSg (Nat.le_of_lt hlt) hjl
          have b114 : h (A 6 ((srt (fun j => decide (x < f (83 + 4 * j))) o k).getD j 0)) = some (.inr (12, [.int (f (83 + 4 * ((srt (fun j => decide (x < f (83 + 4 * j))) o k).getD j 0))), .int (f (84 + 4 * ((srt (fun j => decide (x < f (83 + 4 * j))) o k).getD j 0))), .int (f (85 + 4 * ((srt (fun j => decide (x < f (83 + 4 * j))) o k).getD j 0))), .int (f (86 + 4 * ((srt (fun j => decide (x < f (83 + 4 * j))) o k).getD j 0)))])) := hQu _ hwj
          refine g_eqs (st' := [.ref (A 6 ((srt (fun j => decide (x < f (83 + 4 * j))) o k).getD j 0)), .ref q1]) rfl ?_
          refine g_castE F q764 gc_X17 (x80 _ _ b114) dX2_cuesAbove_66 ?_
          refine g_aload F dX2_cuesAbove_69 5 rfl ?_
          refine g_callV (b := (1 * (12 - (k + 1)) + 0) + 1) (bs := (15 * (12 - (k + 1)) + 0) + 15) F dX2_cuesAbove_71 mi_X14_isAhead q767 q768 q769 gc_X14 f81 (ct_X14_isAhead f81 (x80 _ _ b114) (x80 _ _ b84)) rfl rfl (nle rfl) (nle rfl) (nle rfl) (g_pur ?_) g_purX
          refine g_if_eq (tgt := 83) F dX2_cuesAbove_74 (by decide) (fun c122 => ?_) (fun c122 => ?_)
          · have d2 : ¬ (srt (fun j => decide (x < f (83 + 4 * j))) o k).getD j 0 < o k := fun z => by rw [if_pos ((mQs_i iCu.1 hwj (hSg.1 k hlt)).mpr z)] at c122; exact absurd c122 (by decide)
            have hjq : plc (o k) (srt (fun j => decide (x < f (83 + 4 * j))) o k) = j := Nat.le_antisymm (Nat.not_lt.mp (fun z => d2 (plc_lt z))) hjp
            refine g_aload F dX2_cuesAbove_83 5 rfl ?_
            refine gf_X2_278_X17 (v := .int (f (83 + 4 * (o k)))) F dX2_cuesAbove_85 (x80 _ _ b84) rfl ?_
            refine g_iload_n F dX2_cuesAbove_88 1 rfl rfl ?_
            refine g_icmp_le (tgt := 100) F dX2_cuesAbove_89 (by decide) (fun c123 => ?_) (fun c123 => ?_)
            · have d3 := Int32.not_lt.mpr c123
              refine g_goto (tgt := 25) F dX2_cuesAbove_100 (by decide) ?_
              refine g_lv (lv' := [(0, .ref (A 7 1)), (1, .int x), (2, .ref q1), (3, .ref q18), (4, .ref q50)]) [0, 1, 2, 3, 4] rfl ?_
              refine g_room (b' := (1 * (12 - (k + 1)) + 0)) (bs' := (15 * (12 - (k + 1)) + 0)) (by omega) (by omega) ?_
              exact g_eql (lv' := [(0, .ref (A 7 1)), (1, .int x), (2, .ref q1), (3, .ref q18), (4, .ref q50)]) (by rfl) (ih hlt h_78 d9 md9 x80 f83 (by rw [srt_s, if_neg (fun z => d3 (of_decide_eq_true z))]; exact t82) f81)
            · have d3 := Int32.not_le.mp c123
              refine g_aload_n F dX2_cuesAbove_92 3 rfl rfl ?_
              refine g_iload F dX2_cuesAbove_93 6 rfl ?_
              refine g_aload F dX2_cuesAbove_95 5 rfl ?_
              refine g_eqs (st' := [.ref (A 6 (o k)), .int (nI (plc (o k) (srt (fun j => decide (x < f (83 + 4 * j))) o k))), .ref q18]) (by rw [hjq]) ?_
              refine g_callV (b := (1 * (12 - (k + 1)) + 0)) (bs := (15 * (12 - (k + 1)) + 0)) F dX2_cuesAbove_97 mi_J2_add_3 q801 q802 q803 gc_J2 (t82).1 (ct_J2_add_3L (h0 := h) t82 x80 (by have := srt_len (P := (fun j => decide (x < f (83 + 4 * j)))) (o := o) (m := k); omega) (fun i hi => gOb_q (x80 _ _ (hQu _ (srt_lt hSg (Nat.le_of_lt hlt) hi)))) (gOb_q (x80 _ _ b84)) hKA (Nat.le_trans (Nat.le_of_eq hjq) hj)) rfl rfl (nle rfl) (nle rfl) (nle rfl) (g_pO (fun v124 h_125 p126 => ?_)) g_pOX
              obtain ⟨rfl, p126⟩ := p126
              have x131 := lsG.E p126
              have f132 := lsG.ob p126 t82 f81 (by decide)
              have f133 := lsG.ob p126 t82 f83 (by decide)
              obtain ⟨d134, m135, l136, -, hd_d134, hk_d134⟩ := p126
              refine g_eqs (st' := []) rfl ?_
              refine g_goto (tgt := 25) F dX2_cuesAbove_100 (by decide) ?_
              refine g_lv (lv' := [(0, .ref (A 7 1)), (1, .int x), (2, .ref q1), (3, .ref q18), (4, .ref q50)]) [0, 1, 2, 3, 4] rfl ?_
              refine g_room (b' := (1 * (12 - (k + 1)) + 0)) (bs' := (15 * (12 - (k + 1)) + 0)) (by omega) (by omega) ?_
              exact g_eql (lv' := [(0, .ref (A 7 1)), (1, .int x), (2, .ref q1), (3, .ref q18), (4, .ref q50)]) (by rfl) (ih hlt h_125 d134 m135 x131 f133 (by rw [srt_s, if_pos (decide_eq_true d3)]; exact col_u l136) f132)
          · have d2 : (srt (fun j => decide (x < f (83 + 4 * j))) o k).getD j 0 < o k := (mQs_i iCu.1 hwj (hSg.1 k hlt)).mp (Classical.byContradiction (fun z => c122 (by rw [if_neg z])))
            have hj1 : j + 1 ≤ plc (o k) (srt (fun j => decide (x < f (83 + 4 * j))) o k) := by rcases Nat.lt_or_ge j (plc (o k) (srt (fun j => decide (x < f (83 + 4 * j))) o k)) with z | z; exact z; exact absurd d2 (by have e9 : j = plc (o k) (srt (fun j => decide (x < f (83 + 4 * j))) o k) := Nat.le_antisymm hjp z; rw [e9]; exact plc_at (by rw [← e9]; exact hjl))
            refine g_iinc (lv' := [(6, .int ((nI j) + 1)), (0, .ref (A 7 1)), (1, .int x), (2, .ref q1), (3, .ref q18), (4, .ref q50), (5, .ref (A 6 (o k)))]) (v := (nI j) + 1) F dX2_cuesAbove_77 (k := 6) rfl rfl (by decide) rfl ?_
            refine g_goto (tgt := 50) F dX2_cuesAbove_80 (by decide) ?_
            refine g_lv (lv' := [(0, .ref (A 7 1)), (1, .int x), (2, .ref q1), (3, .ref q18), (4, .ref q50), (5, .ref (A 6 (o k))), (6, .int ((nI j) + 1))]) [1, 2, 3, 4, 5, 6, 0] rfl ?_
            exact g_eql (lv' := [(0, .ref (A 7 1)), (1, .int x), (2, .ref q1), (3, .ref q18), (4, .ref q50), (5, .ref (A 6 (o k))), (6, .int (nI ((j + 1))))]) (by simp only [nI_1]) (ihj hjl hj1)
      refine g_lv (lv' := [(0, .ref (A 7 1)), (1, .int x), (2, .ref q1), (3, .ref q18), (4, .ref q50), (5, .ref (A 6 (o k))), (6, .int 0)]) [2, 3, 4, 5, 6, 1, 0] rfl ?_
      exact lpj 0 (Nat.zero_le _) (Nat.zero_le _)
  have f137 := lsO_0 (K := K) (N := gNw K h) (l := fun i => A 6 ((srt (fun j => decide (x < f (83 + 4 * j))) o 0).getD i 0)) f61 ⟨w21, ho_e20⟩
  refine g_lv (lv' := [(0, .ref (A 7 1)), (1, .int x), (2, .ref q1), (3, .ref q18), (4, .ref q50)]) [3, 4, 2, 1, 0] rfl ?_
  exact lp25 0 (Nat.zero_le _) h_44 (gAd K 203) 0 x59 f62 f137 f60
set_option maxHeartbeats 4000000 in
set_option maxRecDepth 100000 in
theorem ct_X2_nextCue {K : gK} {N : Nat → Prop} {h : AH} {A : Nat → Nat → Nat} {o : Nat → Nat} {f : Nat → Int32} {nb nc nh nq : Nat} (hT : th K N h A o f nb nc nh nq) {Y : Nat} (hI : xI f nb nc nh nq Y) (hKA : gKA K) : gCt K yX2_nextCue w_X2_nextCue 7 164 18 189 h [.ref (A 7 1)] (pO (fun v h9 => v = some (va_rf ((xNext f nq).map (A 6))) ∧ gE h h9)) := by
  refine g_meth pf_X2_nextCue (nle rfl) (fun p e s m args below meth c F hnm htb => ?_)
  have F : gFix K p s m args meth c cX2_nextCue 1 RX2 (some (.object "CurtainRiggers$Cue")) := F
  refine g_eql (lv' := [(0, .ref (A 7 1))]) rfl ?_
  have hTt := hT
  obtain ⟨⟨hT0, hTN⟩, hRw, ⟨MD, hLs⟩, ⟨dz, hZ0, hZN, hZo, hZd⟩, ⟨hB, hBN⟩, ⟨hCu, hCN⟩, ⟨hHa, hHN⟩, hQu, hDj, hSg⟩ := hTt
  have hR0 : h (A 0 0) = some (.inr (3, [.ref (A 1 0), .int 8])) := hRw 0 (by decide)
  have hR1 : h (A 0 1) = some (.inr (3, [.ref (A 1 1), .int 12])) := hRw 1 (by decide)
  have hR2 : h (A 0 2) = some (.inr (3, [.ref (A 1 2), .int 6])) := hRw 2 (by decide)
  have hR3 : h (A 0 3) = some (.inr (3, [.ref (A 1 3), .int 12])) := hRw 3 (by decide)
  have hL0 : lsO K N h (A 1 0) (A 2 0) nb (A 3) (MD 0) := hLs 0 (by decide)
  have hL1 : lsO K N h (A 1 1) (A 2 1) nc (A 4) (MD 1) := hLs 1 (by decide)
  have hL2 : lsO K N h (A 1 2) (A 2 2) nh (A 5) (MD 2) := hLs 2 (by decide)
  have hL3 : lsO K N h (A 1 3) (A 2 3) nq (fun i => A 6 (o i)) (MD 3) := hLs 3 (by decide)
  have nb15 : nb ≤ 15 := hL0.2.2.1
  have nc15 : nc ≤ 15 := hL1.2.2.1
  have nh15 : nh ≤ 15 := hL2.2.2.1
  have nq15 : nq ≤ 15 := hL3.2.2.1
  have hI2 := hI
  obtain ⟨iC, iL, iBa, iWe, iDo, iCu, iMe⟩ := hI
  obtain ⟨f1, nb8, f2, nc12, f3, nh6, f4, nq12⟩ := iC
  refine g_aload_n F dX2_nextCue_0 0 rfl rfl ?_
  refine g_aload_n F dX2_nextCue_1 0 rfl rfl ?_
  refine gf_X2_43_X2 (v := .int (f 7)) F dX2_nextCue_2 hT0 rfl ?_
  refine g_callV (b := 3) (bs := 4) F dX2_nextCue_5 mi_X2_cuesAbove q730 q731 q732 gc_X2 hT0 (ct_X2_cuesAbove hT hI2 hKA) rfl rfl (nle rfl) (nle rfl) (nle rfl) (g_pO (fun v1 h_2 p3 => ?_)) g_pOX
  obtain ⟨a8, d9, m10, rfl, l11, x12⟩ := p3
  have x13 := gE.tr gE.rf x12
  have l14 := lsO.N (N' := fun _ => True) (fun _ _ => trivial) l11
  refine g_eqs (st' := [.ref a8]) rfl ?_
  refine g_new (fs := []) (b := 2) (bs := 4) F in_X14 tyX14 tyX14_ok q734 q735 q107 gc_X14 nf_X14 dX2_nextCue_8 (fun q15 h_16 hn_e17 ho_e17 e17 => ?_)
  have w18 := gE.no x13 hn_e17
  have d19 := gnew hn_e17 ((lsO.up x13 hL0)).1
  have d20 := gnew hn_e17 ((lsO.up x13 hL1)).1
  have d21 := gnew hn_e17 ((lsO.up x13 hL2)).1
  have d22 := gnew hn_e17 ((lsO.up x13 hL3)).1
  have d23 := gnew hn_e17 (l14).1
  have x24 := gE.new1 x13 e17 hn_e17
  have t25 := lsO.up (gE.new1 gE.rf e17 hn_e17) l14
  have f26 := gu_a e17
  refine g_dup F dX2_nextCue_11 rfl ?_
  refine g_callIN F dX2_nextCue_12 mi_X14_init rfl q736 q737 ct_X14_init rfl rfl (nle rfl) (nle rfl) (nle rfl) (g_purv ?_) g_purvX
  refine g_callS (b := 1) (bs := 0) F dX2_nextCue_15 mi_X15_first q1054 q1055 (ct_X15_first_Q (W := qAb f (f 7) nq) (th.up x24 hT) f26 (fun i hi => qAb_lt hi) range_srt iCu.1 t25) rfl rfl (nle rfl) (nle rfl) (nle rfl) (g_pO (fun v34 h_35 p36 => ?_)) g_pOX
  rw [qHd_nx] at p36
  obtain ⟨rfl, p36⟩ := p36
  have x41 := gE.tr x24 p36
  have f42 := p36 _ _ f26
  have t43 := lsO.up p36 t25
  refine g_eqs (st' := [va_rf ((xNext f nq).map (A 6))]) rfl ?_
  rcases hv : xNext f nq with _ | b9
  · refine g_eqs (st' := [.null]) (by first | rfl | (simp [hv, va_rf])) ?_
    refine g_castN F dX2_nextCue_18 ?_
    exact g_aret F dX2_nextCue_21 (Or.inl ⟨_, rfl⟩) (Or.inl rfl) (⟨_, rfl, rfl, x41⟩)
  · refine g_eqs (st' := [.ref (A 6 b9)]) (by first | rfl | (simp [hv, va_rf])) ?_
    have hb9 : b9 < nq := by have := (xNx_lt _ _ _ hv).2.1; omega
    have b44 : h (A 6 b9) = some (.inr (12, [.int (f (83 + 4 * b9)), .int (f (84 + 4 * b9)), .int (f (85 + 4 * b9)), .int (f (86 + 4 * b9))])) := hQu _ hb9
    refine g_castE F q764 gc_X17 (x41 _ _ b44) dX2_nextCue_18 ?_
    exact g_aret F dX2_nextCue_21 (Or.inl ⟨_, rfl⟩) (Or.inr ⟨_, rfl⟩) (⟨_, rfl, rfl, x41⟩)
