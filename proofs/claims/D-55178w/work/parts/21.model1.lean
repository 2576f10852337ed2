set_option maxHeartbeats 4000000 in
set_option maxRecDepth 100000 in
theorem ct_J16_abs {K : gK} {h : AH} {x : Int32} : gCt K yJ16_abs w_J16_abs 0 0 0 0 h [.int x] (pR (.int (mAbs x)) h) := by
  refine g_meth pf_J16_abs (nle rfl) (fun p e s m args below meth c F hnm htb => ?_)
  have F : gFix K p s m args meth c cJ16_abs 1 RJ16 (some .int) := F
  refine g_eql (lv' := [(0, .int x)]) rfl ?_
  refine g_iload_n F dJ16_abs_0 0 rfl rfl ?_
  refine g_if_ge (tgt := 9) F dJ16_abs_1 (by decide) (fun c1 => ?_) (fun c1 => ?_)
  · refine g_iload_n F dJ16_abs_9 0 rfl rfl ?_
    exact g_iret F dJ16_abs_10 (⟨by first | rw [← mAbs_p (by assumption)] | rw [mAbs_n (by assumption)], rfl⟩)
  · refine g_iload_n F dJ16_abs_4 0 rfl rfl ?_
    refine g_ineg F dJ16_abs_5 ?_
    refine g_goto (tgt := 10) F dJ16_abs_6 (by decide) ?_
    exact g_iret F dJ16_abs_10 (⟨by first | rw [← mAbs_p (by assumption)] | rw [mAbs_n (by assumption)], rfl⟩)
set_option maxHeartbeats 4000000 in
set_option maxRecDepth 100000 in
theorem ct_J16_max {K : gK} {h : AH} {x y : Int32} : gCt K yJ16_max w_J16_max 0 0 0 0 h [.int x, .int y] (pR (.int (mMax x y)) h) := by
  refine g_meth pf_J16_max (nle rfl) (fun p e s m args below meth c F hnm htb => ?_)
  have F : gFix K p s m args meth c cJ16_max 2 RJ16 (some .int) := F
  refine g_eql (lv' := [(0, .int x), (1, .int y)]) rfl ?_
  refine g_iload_n F dJ16_max_0 0 rfl rfl ?_
  refine g_iload_n F dJ16_max_1 1 rfl rfl ?_
  refine g_icmp_lt (tgt := 9) F dJ16_max_2 (by decide) (fun c1 => ?_) (fun c1 => ?_)
  · refine g_iload_n F dJ16_max_9 1 rfl rfl ?_
    exact g_iret F dJ16_max_10 (⟨by simp [mMax, *], rfl⟩)
  · refine g_iload_n F dJ16_max_5 0 rfl rfl ?_
    refine g_goto (tgt := 10) F dJ16_max_6 (by decide) ?_
    exact g_iret F dJ16_max_10 (⟨by simp [mMax, *], rfl⟩)
set_option maxHeartbeats 4000000 in
set_option maxRecDepth 100000 in
theorem ct_J16_min {K : gK} {h : AH} {x y : Int32} : gCt K yJ16_min w_J16_min 0 0 0 0 h [.int x, .int y] (pR (.int (mMin x y)) h) := by
  refine g_meth pf_J16_min (nle rfl) (fun p e s m args below meth c F hnm htb => ?_)
  have F : gFix K p s m args meth c cJ16_min 2 RJ16 (some .int) := F
  refine g_eql (lv' := [(0, .int x), (1, .int y)]) rfl ?_
  refine g_iload_n F dJ16_min_0 0 rfl rfl ?_
  refine g_iload_n F dJ16_min_1 1 rfl rfl ?_
  refine g_icmp_gt (tgt := 9) F dJ16_min_2 (by decide) (fun c1 => ?_) (fun c1 => ?_)
  · refine g_iload_n F dJ16_min_9 1 rfl rfl ?_
    exact g_iret F dJ16_min_10 (⟨by simp [mMin, *], rfl⟩)
  · refine g_iload_n F dJ16_min_5 0 rfl rfl ?_
    refine g_goto (tgt := 10) F dJ16_min_6 (by decide) ?_
    exact g_iret F dJ16_min_10 (⟨by simp [mMin, *], rfl⟩)
set_option maxHeartbeats 4000000 in
set_option maxRecDepth 100000 in
theorem ct_X4_in {K : gK} {h : AH} {x lo hi : Int32} : gCt K yX4_in w_X4_in 0 0 0 0 h [.int x, .int lo, .int hi] (pR (.int (mIn x lo hi)) h) := by
  refine g_meth pf_X4_in (nle rfl) (fun p e s m args below meth c F hnm htb => ?_)
  have F : gFix K p s m args meth c cX4_in 3 RX4 (some .boolean) := F
  refine g_eql (lv' := [(0, .int x), (1, .int lo), (2, .int hi)]) rfl ?_
  refine g_iload_n F dX4_in_0 0 rfl rfl ?_
  refine g_iload_n F dX4_in_1 1 rfl rfl ?_
  refine g_icmp_lt (tgt := 14) F dX4_in_2 (by decide) (fun c1 => ?_) (fun c1 => ?_)
  · refine g_iconst (v := 0) F dX4_in_14 rfl ?_
    exact g_zret F dX4_in_15 (by first | rfl | exact mIn_n | (split <;> rfl) | decide) (⟨by first | rw [mIn_t (by assumption) (by assumption)] | rw [mIn_f1 (by assumption)] | rw [mIn_f2 (by assumption)], rfl⟩)
  · refine g_iload_n F dX4_in_5 0 rfl rfl ?_
    refine g_iload_n F dX4_in_6 2 rfl rfl ?_
    refine g_icmp_gt (tgt := 14) F dX4_in_7 (by decide) (fun c2 => ?_) (fun c2 => ?_)
    · refine g_iconst (v := 0) F dX4_in_14 rfl ?_
      exact g_zret F dX4_in_15 (by first | rfl | exact mIn_n | (split <;> rfl) | decide) (⟨by first | rw [mIn_t (by assumption) (by assumption)] | rw [mIn_f1 (by assumption)] | rw [mIn_f2 (by assumption)], rfl⟩)
    · refine g_iconst (v := 1) F dX4_in_10 rfl ?_
      refine g_goto (tgt := 15) F dX4_in_11 (by decide) ?_
      exact g_zret F dX4_in_15 (by first | rfl | exact mIn_n | (split <;> rfl) | decide) (⟨by first | rw [mIn_t (by assumption) (by assumption)] | rw [mIn_f1 (by assumption)] | rw [mIn_f2 (by assumption)], rfl⟩)
set_option maxHeartbeats 4000000 in
set_option maxRecDepth 100000 in
theorem ct_X4_thrown {K : gK} {h : AH} {o : Nat} {L : Nat → Nat} {iv : Nat → Int32} {av : Nat → Nat → Int32} (hN : mN K o L) : gCt K yX4_thrown w_X4_thrown 0 0 0 0 (mO K h o L iv av) [.ref o] (pR (.int (iv 7)) (mO K h o L iv av)) := by
  refine g_meth pf_X4_thrown (nle rfl) (fun p e s m args below meth c F hnm htb => ?_)
  have F : gFix K p s m args meth c cX4_thrown 1 RX4 (some .int) := F
  refine g_eql (lv' := [(0, .ref o)]) rfl ?_
  refine g_aload_n F dX4_thrown_0 0 rfl rfl ?_
  refine gf_X4_69_X4 (v := .int (iv 7)) F dX4_thrown_1 mO_o rfl ?_
  exact g_iret F dX4_thrown_4 (⟨rfl, rfl⟩)
set_option maxHeartbeats 4000000 in
set_option maxRecDepth 100000 in
theorem ct_X4_fails {K : gK} {h : AH} {o : Nat} {L : Nat → Nat} {iv : Nat → Int32} {av : Nat → Nat → Int32} (hN : mN K o L) {x : Int32} : gCt K yX4_fails w_X4_fails 0 0 0 0 (mO K h o L iv av) [.ref o, .int x] (pR (.int 0) (mO K h o L (upd iv 7 x) av)) := by
  refine g_meth pf_X4_fails (nle rfl) (fun p e s m args below meth c F hnm htb => ?_)
  have F : gFix K p s m args meth c cX4_fails 2 RX4 (some .int) := F
  refine g_eql (lv' := [(0, .ref o), (1, .int x)]) rfl ?_
  refine g_aload_n F dX4_fails_0 0 rfl rfl ?_
  refine g_iload_n F dX4_fails_1 1 rfl rfl ?_
  refine gp_X4_69_X4 F dX4_fails_2 mO_o hN.1 (nle rfl) rfl (fun h_e1 e1 => ?_)
  refine g_mput (iv2 := upd iv 7 x) e1 rfl ?_
  refine g_iconst (v := 0) F dX4_fails_5 rfl ?_
  exact g_iret F dX4_fails_6 (⟨rfl, rfl⟩)
set_option maxHeartbeats 4000000 in
set_option maxRecDepth 100000 in
theorem ct_X4_refuse {K : gK} {h : AH} {o : Nat} {L : Nat → Nat} {iv : Nat → Int32} {av : Nat → Nat → Int32} (hN : mN K o L) {x y z : Int32} : gCt K yX4_refuse w_X4_refuse 0 0 0 0 (mO K h o L iv av) [.ref o, .int x, .int y, .int z] (pR (.int 0) (mO K h o L (upd (upd (upd iv 7 x) 8 y) 9 z) av)) := by
  refine g_meth pf_X4_refuse (nle rfl) (fun p e s m args below meth c F hnm htb => ?_)
  have F : gFix K p s m args meth c cX4_refuse 4 RX4 (some .int) := F
  refine g_eql (lv' := [(0, .ref o), (1, .int x), (2, .int y), (3, .int z)]) rfl ?_
  refine g_aload_n F dX4_refuse_0 0 rfl rfl ?_
  refine g_iload_n F dX4_refuse_1 1 rfl rfl ?_
  refine gp_X4_69_X4 F dX4_refuse_2 mO_o hN.1 (nle rfl) rfl (fun h_e1 e1 => ?_)
  refine g_mput (iv2 := upd iv 7 x) e1 rfl ?_
  refine g_aload_n F dX4_refuse_5 0 rfl rfl ?_
  refine g_iload_n F dX4_refuse_6 2 rfl rfl ?_
  refine gp_X4_81_X4 F dX4_refuse_7 mO_o hN.1 (nle rfl) rfl (fun h_e2 e2 => ?_)
  refine g_mput (iv2 := upd (upd iv 7 x) 8 y) e2 rfl ?_
  refine g_aload_n F dX4_refuse_10 0 rfl rfl ?_
  refine g_iload_n F dX4_refuse_11 3 rfl rfl ?_
  refine gp_X4_84_X4 F dX4_refuse_12 mO_o hN.1 (nle rfl) rfl (fun h_e3 e3 => ?_)
  refine g_mput (iv2 := upd (upd (upd iv 7 x) 8 y) 9 z) e3 rfl ?_
  refine g_iconst (v := 0) F dX4_refuse_15 rfl ?_
  exact g_iret F dX4_refuse_16 (⟨rfl, rfl⟩)
set_option maxHeartbeats 4000000 in
set_option maxRecDepth 100000 in
theorem ct_X4_bar1 {K : gK} {h : AH} {o : Nat} {L : Nat → Nat} {iv : Nat → Int32} {av : Nat → Nat → Int32} (hN : mN K o L) {x y : Int32} {i : Nat} (hx : 11 + 4 * x + y = nI i) (hi : i < 131) : gCt K yX4_bar1 w_X4_bar1 0 0 0 0 (mO K h o L iv av) [.ref o, .int x, .int y] (pR (.int (av 0 i)) (mO K h o L iv av)) := by
  refine g_meth pf_X4_bar1 (nle rfl) (fun p e s m args below meth c F hnm htb => ?_)
  have F : gFix K p s m args meth c cX4_bar1 3 RX4 (some .int) := F
  refine g_eql (lv' := [(0, .ref o), (1, .int x), (2, .int y)]) rfl ?_
  refine g_aload_n F dX4_bar1_0 0 rfl rfl ?_
  refine gf_X4_9_X4 (v := .ref (L 0)) F dX4_bar1_1 mO_o rfl ?_
  refine g_bipush (v := 11) F dX4_bar1_4 rfl ?_
  refine g_iconst (v := 4) F dX4_bar1_6 rfl ?_
  refine g_iload_n F dX4_bar1_7 1 rfl rfl ?_
  refine g_imul F dX4_bar1_8 ?_
  refine g_iadd F dX4_bar1_9 ?_
  refine g_iload_n F dX4_bar1_10 2 rfl rfl ?_
  refine g_iadd F dX4_bar1_11 ?_
  refine g_ialdN (i := i) F (mO_0 hN) hx rfl hi (by decide) dX4_bar1_12 ?_
  exact g_iret F dX4_bar1_13 (⟨rfl, rfl⟩)
set_option maxHeartbeats 4000000 in
set_option maxRecDepth 100000 in
theorem ct_X4_cue1 {K : gK} {h : AH} {o : Nat} {L : Nat → Nat} {iv : Nat → Int32} {av : Nat → Nat → Int32} (hN : mN K o L) {x y : Int32} {i : Nat} (hx : 83 + 4 * x + y = nI i) (hi : i < 131) : gCt K yX4_cue1 w_X4_cue1 0 0 0 0 (mO K h o L iv av) [.ref o, .int x, .int y] (pR (.int (av 0 i)) (mO K h o L iv av)) := by
  refine g_meth pf_X4_cue1 (nle rfl) (fun p e s m args below meth c F hnm htb => ?_)
  have F : gFix K p s m args meth c cX4_cue1 3 RX4 (some .int) := F
  refine g_eql (lv' := [(0, .ref o), (1, .int x), (2, .int y)]) rfl ?_
  refine g_aload_n F dX4_cue1_0 0 rfl rfl ?_
  refine gf_X4_9_X4 (v := .ref (L 0)) F dX4_cue1_1 mO_o rfl ?_
  refine g_bipush (v := 83) F dX4_cue1_4 rfl ?_
  refine g_iconst (v := 4) F dX4_cue1_6 rfl ?_
  refine g_iload_n F dX4_cue1_7 1 rfl rfl ?_
  refine g_imul F dX4_cue1_8 ?_
  refine g_iadd F dX4_cue1_9 ?_
  refine g_iload_n F dX4_cue1_10 2 rfl rfl ?_
  refine g_iadd F dX4_cue1_11 ?_
  refine g_ialdN (i := i) F (mO_0 hN) hx rfl hi (by decide) dX4_cue1_12 ?_
  exact g_iret F dX4_cue1_13 (⟨rfl, rfl⟩)
set_option maxHeartbeats 4000000 in
set_option maxRecDepth 100000 in
theorem ct_X4_setBar {K : gK} {h : AH} {o : Nat} {L : Nat → Nat} {iv : Nat → Int32} {av : Nat → Nat → Int32} (hN : mN K o L) {x y z : Int32} {i : Nat} (hx : 11 + 4 * x + y = nI i) (hi : i < 131) : gCt K yX4_setBar w_X4_setBar 0 0 0 0 (mO K h o L iv av) [.ref o, .int x, .int y, .int z] (pV (mO K h o L iv (mu av 0 (upd (av 0) i z)))) := by
  refine g_meth pf_X4_setBar (nle rfl) (fun p e s m args below meth c F hnm htb => ?_)
  have F : gFix K p s m args meth c cX4_setBar 4 RX4 none := F
  refine g_eql (lv' := [(0, .ref o), (1, .int x), (2, .int y), (3, .int z)]) rfl ?_
  refine g_aload_n F dX4_setBar_0 0 rfl rfl ?_
  refine gf_X4_9_X4 (v := .ref (L 0)) F dX4_setBar_1 mO_o rfl ?_
  refine g_bipush (v := 11) F dX4_setBar_4 rfl ?_
  refine g_iconst (v := 4) F dX4_setBar_6 rfl ?_
  refine g_iload_n F dX4_setBar_7 1 rfl rfl ?_
  refine g_imul F dX4_setBar_8 ?_
  refine g_iadd F dX4_setBar_9 ?_
  refine g_iload_n F dX4_setBar_10 2 rfl rfl ?_
  refine g_iadd F dX4_setBar_11 ?_
  refine g_iload_n F dX4_setBar_12 3 rfl rfl ?_
  refine g_miast hN 0 (n := 131) (i := i) F (by decide) (by decide) rfl (mO_0 hN) hx rfl hi (by decide) dX4_setBar_13 ?_
  exact g_vret F dX4_setBar_14 (⟨rfl, rfl⟩)
set_option maxHeartbeats 4000000 in
set_option maxRecDepth 100000 in
theorem ct_X4_weightOf {K : gK} {h : AH} {o : Nat} {L : Nat → Nat} {iv : Nat → Int32} {av : Nat → Nat → Int32} (hN : mN K o L) {x : Int32} {i : Nat} (hx : 43 + 2 * x = nI i) (hi : i < 131) : gCt K yX4_weightOf w_X4_weightOf 0 0 0 0 (mO K h o L iv av) [.ref o, .int x] (pR (.int (av 0 i)) (mO K h o L iv av)) := by
  refine g_meth pf_X4_weightOf (nle rfl) (fun p e s m args below meth c F hnm htb => ?_)
  have F : gFix K p s m args meth c cX4_weightOf 2 RX4 (some .int) := F
  refine g_eql (lv' := [(0, .ref o), (1, .int x)]) rfl ?_
  refine g_aload_n F dX4_weightOf_0 0 rfl rfl ?_
  refine gf_X4_9_X4 (v := .ref (L 0)) F dX4_weightOf_1 mO_o rfl ?_
  refine g_bipush (v := 43) F dX4_weightOf_4 rfl ?_
  refine g_iconst (v := 2) F dX4_weightOf_6 rfl ?_
  refine g_iload_n F dX4_weightOf_7 1 rfl rfl ?_
  refine g_imul F dX4_weightOf_8 ?_
  refine g_iadd F dX4_weightOf_9 ?_
  refine g_ialdN (i := i) F (mO_0 hN) hx rfl hi (by decide) dX4_weightOf_10 ?_
  exact g_iret F dX4_weightOf_11 (⟨rfl, rfl⟩)
set_option maxHeartbeats 4000000 in
set_option maxRecDepth 100000 in
theorem ct_X4_barOf1 {K : gK} {h : AH} {o : Nat} {L : Nat → Nat} {iv : Nat → Int32} {av : Nat → Nat → Int32} (hN : mN K o L) {x : Int32} {i : Nat} (hx : 43 + 2 * x + 1 = nI i) (hi : i < 131) : gCt K yX4_barOf1 w_X4_barOf1 0 0 0 0 (mO K h o L iv av) [.ref o, .int x] (pR (.int (av 0 i)) (mO K h o L iv av)) := by
  refine g_meth pf_X4_barOf1 (nle rfl) (fun p e s m args below meth c F hnm htb => ?_)
  have F : gFix K p s m args meth c cX4_barOf1 2 RX4 (some .int) := F
  refine g_eql (lv' := [(0, .ref o), (1, .int x)]) rfl ?_
  refine g_aload_n F dX4_barOf1_0 0 rfl rfl ?_
  refine gf_X4_9_X4 (v := .ref (L 0)) F dX4_barOf1_1 mO_o rfl ?_
  refine g_bipush (v := 43) F dX4_barOf1_4 rfl ?_
  refine g_iconst (v := 2) F dX4_barOf1_6 rfl ?_
  refine g_iload_n F dX4_barOf1_7 1 rfl rfl ?_
  refine g_imul F dX4_barOf1_8 ?_
  refine g_iadd F dX4_barOf1_9 ?_
  refine g_iconst (v := 1) F dX4_barOf1_10 rfl ?_
  refine g_iadd F dX4_barOf1_11 ?_
  refine g_ialdN (i := i) F (mO_0 hN) hx rfl hi (by decide) dX4_barOf1_12 ?_
  exact g_iret F dX4_barOf1_13 (⟨rfl, rfl⟩)
set_option maxHeartbeats 4000000 in
set_option maxRecDepth 100000 in
theorem ct_X4_isBar {K : gK} {h : AH} {o : Nat} {L : Nat → Nat} {iv : Nat → Int32} {av : Nat → Nat → Int32} (hN : mN K o L) {x : Int32} {nb : Nat} (h1 : av 0 1 = nI nb) : gCt K yX4_isBar w_X4_isBar 1 22 0 0 (mO K h o L iv av) [.ref o, .int x] (pR (.int (mIn x 0 (nI nb - 1))) (mO K h o L iv av)) := by
  refine g_meth pf_X4_isBar (nle rfl) (fun p e s m args below meth c F hnm htb => ?_)
  have F : gFix K p s m args meth c cX4_isBar 2 RX4 (some .boolean) := F
  refine g_eql (lv' := [(0, .ref o), (1, .int x)]) rfl ?_
  refine g_iload_n F dX4_isBar_0 1 rfl rfl ?_
  refine g_iconst (v := 0) F dX4_isBar_1 rfl ?_
  refine g_aload_n F dX4_isBar_2 0 rfl rfl ?_
  refine gf_X4_9_X4 (v := .ref (L 0)) F dX4_isBar_3 mO_o rfl ?_
  refine g_iconst (v := 1) F dX4_isBar_6 rfl ?_
  refine g_ialdN (i := 1) F (mO_0 hN) (rfl : (1 : Int32) = nI 1) (show 1 = 1 by omega) (by omega) (by decide) dX4_isBar_7 ?_
  refine g_iconst (v := 1) F dX4_isBar_8 rfl ?_
  refine g_isub F dX4_isBar_9 ?_
  refine g_callS F dX4_isBar_10 mi_X4_in q2346 q2347 ct_X4_in rfl rfl (nle rfl) (nle rfl) (nle rfl) (g_pur ?_) g_purX
  exact g_zret F dX4_isBar_13 (by rw [h1]; exact mIn_n) (⟨by rw [h1], rfl⟩)
set_option maxHeartbeats 4000000 in
set_option maxRecDepth 100000 in
theorem ct_X4_isCurtain {K : gK} {h : AH} {o : Nat} {L : Nat → Nat} {iv : Nat → Int32} {av : Nat → Nat → Int32} (hN : mN K o L) {x : Int32} {nc : Nat} (h2 : av 0 2 = nI nc) : gCt K yX4_isCurtain w_X4_isCurtain 1 22 0 0 (mO K h o L iv av) [.ref o, .int x] (pR (.int (mIn x 0 (nI nc - 1))) (mO K h o L iv av)) := by
  refine g_meth pf_X4_isCurtain (nle rfl) (fun p e s m args below meth c F hnm htb => ?_)
  have F : gFix K p s m args meth c cX4_isCurtain 2 RX4 (some .boolean) := F
  refine g_eql (lv' := [(0, .ref o), (1, .int x)]) rfl ?_
  refine g_iload_n F dX4_isCurtain_0 1 rfl rfl ?_
  refine g_iconst (v := 0) F dX4_isCurtain_1 rfl ?_
  refine g_aload_n F dX4_isCurtain_2 0 rfl rfl ?_
  refine gf_X4_9_X4 (v := .ref (L 0)) F dX4_isCurtain_3 mO_o rfl ?_
  refine g_iconst (v := 2) F dX4_isCurtain_6 rfl ?_
  refine g_ialdN (i := 2) F (mO_0 hN) (rfl : (2 : Int32) = nI 2) (show 2 = 2 by omega) (by omega) (by decide) dX4_isCurtain_7 ?_
  refine g_iconst (v := 1) F dX4_isCurtain_8 rfl ?_
  refine g_isub F dX4_isCurtain_9 ?_
  refine g_callS F dX4_isCurtain_10 mi_X4_in q2346 q2347 ct_X4_in rfl rfl (nle rfl) (nle rfl) (nle rfl) (g_pur ?_) g_purX
  exact g_zret F dX4_isCurtain_13 (by rw [h2]; exact mIn_n) (⟨by rw [h2], rfl⟩)
set_option maxHeartbeats 4000000 in
set_option maxRecDepth 100000 in
theorem ct_X4_load {K : gK} {h : AH} {o : Nat} {L : Nat → Nat} {iv : Nat → Int32} {av : Nat → Nat → Int32} (hN : mN K o L) {nc : Nat} (h2 : av 0 2 = nI nc) (hc : nc ≤ 12) {x : Int32} : gCt K yX4_load w_X4_load 1 21 0 0 (mO K h o L iv av) [.ref o, .int x] (pR (.int (mLoad (av 0) nc x)) (mO K h o L iv av)) := by
  refine g_meth pf_X4_load (nle rfl) (fun p e s m args below meth c F hnm htb => ?_)
  have F : gFix K p s m args meth c cX4_load 4 RX4 (some .int) := F
  refine g_eql (lv' := [(0, .ref o), (1, .int x)]) rfl ?_
  refine g_iconst (v := 0) F dX4_load_0 rfl ?_
  refine g_istore_n (lv' := [(2, .int 0), (0, .ref o), (1, .int x)]) F dX4_load_1 rfl (by decide) rfl ?_
  refine g_iconst (v := 0) F dX4_load_2 rfl ?_
  refine g_istore_n (lv' := [(3, .int 0), (2, .int 0), (0, .ref o), (1, .int x)]) F dX4_load_3 rfl (by decide) rfl ?_
  refine g_lv (lv' := [(0, .ref o), (1, .int x), (2, .int 0), (3, .int 0)]) [2, 3, 1, 0] rfl ?_
  have lp : ∀ k, k ≤ nc → G K p e s m args below meth c (gRm 1 21 0 0) 4 (pR (.int (mLoad (av 0) nc x)) (mO K h o L iv av)) (mO K h o L iv av) 0 0 4 [(0, .ref o), (1, .int x), (2, .int (mSum (fun k => if av 0 (44 + 2 * k) = x then av 0 (43 + 2 * k) else 0) k)), (3, .int (nI k))] [] := by
    refine gloop nc (fun k hk ih => ?_)
    refine g_iload_n F dX4_load_4 3 rfl rfl ?_
    refine g_aload_n F dX4_load_5 0 rfl rfl ?_
    refine gf_X4_9_X4 (v := .ref (L 0)) F dX4_load_6 mO_o rfl ?_
    refine g_iconst (v := 2) F dX4_load_9 rfl ?_
    refine g_ialdN (i := 2) F (mO_0 hN) (rfl : (2 : Int32) = nI 2) (show 2 = 2 by omega) (by omega) (by decide) dX4_load_10 ?_
    refine g_eqs (st' := [.int (nI nc), .int (nI k)]) (by rw [h2]) ?_
    refine g_icmp_ge (tgt := 41) F dX4_load_11 (by decide) (fun c1 => ?_) (fun c1 => ?_)
    · have hkN : k = nc := gexit (by omega) hk c1
      subst hkN
      refine g_iload_n F dX4_load_41 2 rfl rfl ?_
      exact g_iret F dX4_load_42 (⟨rfl, rfl⟩)
    · have hlt : k < nc := gbody (by omega) hk c1
      refine g_iload_n F dX4_load_14 2 rfl rfl ?_
      refine g_aload_n F dX4_load_15 0 rfl rfl ?_
      refine g_iload_n F dX4_load_16 3 rfl rfl ?_
      refine g_callV F dX4_load_17 mi_X4_barOf1 q2381 q2383 qs32 gc_X4 mO_o (ct_X4_barOf1 hN (i := 44 + 2 * k) (nto (nadd (nadd (rfl : (43 : Int32) = nI 43) (nmul (rfl : (2 : Int32) = nI 2) rfl)) (rfl : (1 : Int32) = nI 1)) (show ((43 + (2 * k)) + 1) = 44 + 2 * k by omega)) (by omega)) rfl rfl (nle rfl) (nle rfl) (nle rfl) (g_pur ?_) g_purX
      refine g_iload_n F dX4_load_20 1 rfl rfl ?_
      refine g_icmp_ne (tgt := 32) F dX4_load_21 (by decide) (fun c2 => ?_) (fun c2 => ?_)
      · refine g_iconst (v := 0) F dX4_load_32 rfl ?_
        refine g_iadd F dX4_load_33 ?_
        refine g_istore_n (lv' := [(2, .int ((mSum (fun k => if av 0 (44 + 2 * k) = x then av 0 (43 + 2 * k) else 0) k) + 0)), (0, .ref o), (1, .int x), (3, .int (nI k))]) F dX4_load_34 rfl (by decide) rfl ?_
        refine g_iinc (lv' := [(3, .int ((nI k) + 1)), (2, .int ((mSum (fun k => if av 0 (44 + 2 * k) = x then av 0 (43 + 2 * k) else 0) k) + 0)), (0, .ref o), (1, .int x)]) (v := (nI k) + 1) F dX4_load_35 (k := 3) rfl rfl (by decide) rfl ?_
        refine g_goto (tgt := 4) F dX4_load_38 (by decide) ?_
        refine g_lv (lv' := [(0, .ref o), (1, .int x), (2, .int ((mSum (fun k => if av 0 (44 + 2 * k) = x then av 0 (43 + 2 * k) else 0) k) + 0)), (3, .int ((nI k) + 1))]) [2, 3, 1, 0] rfl ?_
        exact g_eql (lv' := [(0, .ref o), (1, .int x), (2, .int (mSum (fun k => if av 0 (44 + 2 * k) = x then av 0 (43 + 2 * k) else 0) (k + 1))), (3, .int (nI (k + 1)))]) (by simp [nI_1, mSum_s, *]) (ih hlt)
      · refine g_aload_n F dX4_load_24 0 rfl rfl ?_
        refine g_iload_n F dX4_load_25 3 rfl rfl ?_
        refine g_callV F dX4_load_26 mi_X4_weightOf q2385 q2387 qs33 gc_X4 mO_o (ct_X4_weightOf hN (i := 43 + 2 * k) (nto (nadd (rfl : (43 : Int32) = nI 43) (nmul (rfl : (2 : Int32) = nI 2) rfl)) (show (43 + (2 * k)) = 43 + 2 * k by omega)) (by omega)) rfl rfl (nle rfl) (nle rfl) (nle rfl) (g_pur ?_) g_purX
        refine g_goto (tgt := 33) F dX4_load_29 (by decide) ?_
        refine g_iadd F dX4_load_33 ?_
        refine g_istore_n (lv' := [(2, .int ((mSum (fun k => if av 0 (44 + 2 * k) = x then av 0 (43 + 2 * k) else 0) k) + (av 0 (43 + 2 * k)))), (0, .ref o), (1, .int x), (3, .int (nI k))]) F dX4_load_34 rfl (by decide) rfl ?_
        refine g_iinc (lv' := [(3, .int ((nI k) + 1)), (2, .int ((mSum (fun k => if av 0 (44 + 2 * k) = x then av 0 (43 + 2 * k) else 0) k) + (av 0 (43 + 2 * k)))), (0, .ref o), (1, .int x)]) (v := (nI k) + 1) F dX4_load_35 (k := 3) rfl rfl (by decide) rfl ?_
        refine g_goto (tgt := 4) F dX4_load_38 (by decide) ?_
        refine g_lv (lv' := [(0, .ref o), (1, .int x), (2, .int ((mSum (fun k => if av 0 (44 + 2 * k) = x then av 0 (43 + 2 * k) else 0) k) + (av 0 (43 + 2 * k)))), (3, .int ((nI k) + 1))]) [2, 3, 1, 0] rfl ?_
        exact g_eql (lv' := [(0, .ref o), (1, .int x), (2, .int (mSum (fun k => if av 0 (44 + 2 * k) = x then av 0 (43 + 2 * k) else 0) (k + 1))), (3, .int (nI (k + 1)))]) (by simp [nI_1, mSum_s, *]) (ih hlt)
  exact lp 0 (Nat.zero_le _)
set_option maxHeartbeats 4000000 in
set_option maxRecDepth 100000 in
theorem ct_X4_curtainsOn {K : gK} {h : AH} {o : Nat} {L : Nat → Nat} {iv : Nat → Int32} {av : Nat → Nat → Int32} (hN : mN K o L) {nc : Nat} (h2 : av 0 2 = nI nc) (hc : nc ≤ 12) {x : Int32} : gCt K yX4_curtainsOn w_X4_curtainsOn 1 21 0 0 (mO K h o L iv av) [.ref o, .int x] (pR (.int (mCnt (av 0) nc x)) (mO K h o L iv av)) := by
  refine g_meth pf_X4_curtainsOn (nle rfl) (fun p e s m args below meth c F hnm htb => ?_)
  have F : gFix K p s m args meth c cX4_curtainsOn 4 RX4 (some .int) := F
  refine g_eql (lv' := [(0, .ref o), (1, .int x)]) rfl ?_
  refine g_iconst (v := 0) F dX4_curtainsOn_0 rfl ?_
  refine g_istore_n (lv' := [(2, .int 0), (0, .ref o), (1, .int x)]) F dX4_curtainsOn_1 rfl (by decide) rfl ?_
  refine g_iconst (v := 0) F dX4_curtainsOn_2 rfl ?_
  refine g_istore_n (lv' := [(3, .int 0), (2, .int 0), (0, .ref o), (1, .int x)]) F dX4_curtainsOn_3 rfl (by decide) rfl ?_
  refine g_lv (lv' := [(0, .ref o), (1, .int x), (2, .int 0), (3, .int 0)]) [2, 3, 1, 0] rfl ?_
  have lp : ∀ k, k ≤ nc → G K p e s m args below meth c (gRm 1 21 0 0) 4 (pR (.int (mCnt (av 0) nc x)) (mO K h o L iv av)) (mO K h o L iv av) 0 0 4 [(0, .ref o), (1, .int x), (2, .int (mSum (fun k => if av 0 (44 + 2 * k) = x then 1 else 0) k)), (3, .int (nI k))] [] := by
    refine gloop nc (fun k hk ih => ?_)
    refine g_iload_n F dX4_curtainsOn_4 3 rfl rfl ?_
    refine g_aload_n F dX4_curtainsOn_5 0 rfl rfl ?_
    refine gf_X4_9_X4 (v := .ref (L 0)) F dX4_curtainsOn_6 mO_o rfl ?_
    refine g_iconst (v := 2) F dX4_curtainsOn_9 rfl ?_
    refine g_ialdN (i := 2) F (mO_0 hN) (rfl : (2 : Int32) = nI 2) (show 2 = 2 by omega) (by omega) (by decide) dX4_curtainsOn_10 ?_
    refine g_eqs (st' := [.int (nI nc), .int (nI k)]) (by rw [h2]) ?_
    refine g_icmp_ge (tgt := 37) F dX4_curtainsOn_11 (by decide) (fun c1 => ?_) (fun c1 => ?_)
    · have hkN : k = nc := gexit (by omega) hk c1
      subst hkN
      refine g_iload_n F dX4_curtainsOn_37 2 rfl rfl ?_
      exact g_iret F dX4_curtainsOn_38 (⟨rfl, rfl⟩)
    · have hlt : k < nc := gbody (by omega) hk c1
      refine g_iload_n F dX4_curtainsOn_14 2 rfl rfl ?_
      refine g_aload_n F dX4_curtainsOn_15 0 rfl rfl ?_
      refine g_iload_n F dX4_curtainsOn_16 3 rfl rfl ?_
      refine g_callV F dX4_curtainsOn_17 mi_X4_barOf1 q2381 q2383 qs32 gc_X4 mO_o (ct_X4_barOf1 hN (i := 44 + 2 * k) (nto (nadd (nadd (rfl : (43 : Int32) = nI 43) (nmul (rfl : (2 : Int32) = nI 2) rfl)) (rfl : (1 : Int32) = nI 1)) (show ((43 + (2 * k)) + 1) = 44 + 2 * k by omega)) (by omega)) rfl rfl (nle rfl) (nle rfl) (nle rfl) (g_pur ?_) g_purX
      refine g_iload_n F dX4_curtainsOn_20 1 rfl rfl ?_
      refine g_icmp_ne (tgt := 28) F dX4_curtainsOn_21 (by decide) (fun c2 => ?_) (fun c2 => ?_)
      · refine g_iconst (v := 0) F dX4_curtainsOn_28 rfl ?_
        refine g_iadd F dX4_curtainsOn_29 ?_
        refine g_istore_n (lv' := [(2, .int ((mSum (fun k => if av 0 (44 + 2 * k) = x then 1 else 0) k) + 0)), (0, .ref o), (1, .int x), (3, .int (nI k))]) F dX4_curtainsOn_30 rfl (by decide) rfl ?_
        refine g_iinc (lv' := [(3, .int ((nI k) + 1)), (2, .int ((mSum (fun k => if av 0 (44 + 2 * k) = x then 1 else 0) k) + 0)), (0, .ref o), (1, .int x)]) (v := (nI k) + 1) F dX4_curtainsOn_31 (k := 3) rfl rfl (by decide) rfl ?_
        refine g_goto (tgt := 4) F dX4_curtainsOn_34 (by decide) ?_
        refine g_lv (lv' := [(0, .ref o), (1, .int x), (2, .int ((mSum (fun k => if av 0 (44 + 2 * k) = x then 1 else 0) k) + 0)), (3, .int ((nI k) + 1))]) [2, 3, 1, 0] rfl ?_
        exact g_eql (lv' := [(0, .ref o), (1, .int x), (2, .int (mSum (fun k => if av 0 (44 + 2 * k) = x then 1 else 0) (k + 1))), (3, .int (nI (k + 1)))]) (by simp [nI_1, mSum_s, *]) (ih hlt)
      · refine g_iconst (v := 1) F dX4_curtainsOn_24 rfl ?_
        refine g_goto (tgt := 29) F dX4_curtainsOn_25 (by decide) ?_
        refine g_iadd F dX4_curtainsOn_29 ?_
        refine g_istore_n (lv' := [(2, .int ((mSum (fun k => if av 0 (44 + 2 * k) = x then 1 else 0) k) + 1)), (0, .ref o), (1, .int x), (3, .int (nI k))]) F dX4_curtainsOn_30 rfl (by decide) rfl ?_
        refine g_iinc (lv' := [(3, .int ((nI k) + 1)), (2, .int ((mSum (fun k => if av 0 (44 + 2 * k) = x then 1 else 0) k) + 1)), (0, .ref o), (1, .int x)]) (v := (nI k) + 1) F dX4_curtainsOn_31 (k := 3) rfl rfl (by decide) rfl ?_
        refine g_goto (tgt := 4) F dX4_curtainsOn_34 (by decide) ?_
        refine g_lv (lv' := [(0, .ref o), (1, .int x), (2, .int ((mSum (fun k => if av 0 (44 + 2 * k) = x then 1 else 0) k) + 1)), (3, .int ((nI k) + 1))]) [2, 3, 1, 0] rfl ?_
        exact g_eql (lv' := [(0, .ref o), (1, .int x), (2, .int (mSum (fun k => if av 0 (44 + 2 * k) = x then 1 else 0) (k + 1))), (3, .int (nI (k + 1)))]) (by simp [nI_1, mSum_s, *]) (ih hlt)
  exact lp 0 (Nat.zero_le _)
set_option maxHeartbeats 4000000 in
set_option maxRecDepth 100000 in
theorem ct_X4_onBars {K : gK} {h : AH} {o : Nat} {L : Nat → Nat} {iv : Nat → Int32} {av : Nat → Nat → Int32} (hN : mN K o L) {nb : Nat} (h1 : av 0 1 = nI nb) (hb : nb ≤ 8) : gCt K yX4_onBars w_X4_onBars 1 22 0 0 (mO K h o L iv av) [.ref o] (pR (.int (mOn (av 0) nb)) (mO K h o L iv av)) := by
  refine g_meth pf_X4_onBars (nle rfl) (fun p e s m args below meth c F hnm htb => ?_)
  have F : gFix K p s m args meth c cX4_onBars 3 RX4 (some .int) := F
  refine g_eql (lv' := [(0, .ref o)]) rfl ?_
  refine g_iconst (v := 0) F dX4_onBars_0 rfl ?_
  refine g_istore_n (lv' := [(1, .int 0), (0, .ref o)]) F dX4_onBars_1 rfl (by decide) rfl ?_
  refine g_iconst (v := 0) F dX4_onBars_2 rfl ?_
  refine g_istore_n (lv' := [(2, .int 0), (1, .int 0), (0, .ref o)]) F dX4_onBars_3 rfl (by decide) rfl ?_
  refine g_lv (lv' := [(0, .ref o), (1, .int 0), (2, .int 0)]) [2, 1, 0] rfl ?_
  have lp : ∀ k, k ≤ nb → G K p e s m args below meth c (gRm 1 22 0 0) 3 (pR (.int (mOn (av 0) nb)) (mO K h o L iv av)) (mO K h o L iv av) 0 0 4 [(0, .ref o), (1, .int (mSum (fun k => av 0 (12 + 4 * k)) k)), (2, .int (nI k))] [] := by
    refine gloop nb (fun k hk ih => ?_)
    refine g_iload_n F dX4_onBars_4 2 rfl rfl ?_
    refine g_aload_n F dX4_onBars_5 0 rfl rfl ?_
    refine gf_X4_9_X4 (v := .ref (L 0)) F dX4_onBars_6 mO_o rfl ?_
    refine g_iconst (v := 1) F dX4_onBars_9 rfl ?_
    refine g_ialdN (i := 1) F (mO_0 hN) (rfl : (1 : Int32) = nI 1) (show 1 = 1 by omega) (by omega) (by decide) dX4_onBars_10 ?_
    refine g_eqs (st' := [.int (nI nb), .int (nI k)]) (by rw [h1]) ?_
    refine g_icmp_ge (tgt := 29) F dX4_onBars_11 (by decide) (fun c1 => ?_) (fun c1 => ?_)
    · have hkN : k = nb := gexit (by omega) hk c1
      subst hkN
      refine g_iload_n F dX4_onBars_29 1 rfl rfl ?_
      exact g_iret F dX4_onBars_30 (⟨rfl, rfl⟩)
    · have hlt : k < nb := gbody (by omega) hk c1
      refine g_iload_n F dX4_onBars_14 1 rfl rfl ?_
      refine g_aload_n F dX4_onBars_15 0 rfl rfl ?_
      refine g_iload_n F dX4_onBars_16 2 rfl rfl ?_
      refine g_iconst (v := 1) F dX4_onBars_17 rfl ?_
      refine g_callV F dX4_onBars_18 mi_X4_bar1 q2373 q2375 qs30 gc_X4 mO_o (ct_X4_bar1 hN (i := 12 + 4 * k) (nto (nadd (nadd (rfl : (11 : Int32) = nI 11) (nmul (rfl : (4 : Int32) = nI 4) rfl)) (rfl : (1 : Int32) = nI 1)) (show ((11 + (4 * k)) + 1) = 12 + 4 * k by omega)) (by omega)) rfl rfl (nle rfl) (nle rfl) (nle rfl) (g_pur ?_) g_purX
      refine g_iadd F dX4_onBars_21 ?_
      refine g_istore_n (lv' := [(1, .int ((mSum (fun k => av 0 (12 + 4 * k)) k) + (av 0 (12 + 4 * k)))), (0, .ref o), (2, .int (nI k))]) F dX4_onBars_22 rfl (by decide) rfl ?_
      refine g_iinc (lv' := [(2, .int ((nI k) + 1)), (1, .int ((mSum (fun k => av 0 (12 + 4 * k)) k) + (av 0 (12 + 4 * k)))), (0, .ref o)]) (v := (nI k) + 1) F dX4_onBars_23 (k := 2) rfl rfl (by decide) rfl ?_
      refine g_goto (tgt := 4) F dX4_onBars_26 (by decide) ?_
      refine g_lv (lv' := [(0, .ref o), (1, .int ((mSum (fun k => av 0 (12 + 4 * k)) k) + (av 0 (12 + 4 * k)))), (2, .int ((nI k) + 1))]) [2, 1, 0] rfl ?_
      exact g_eql (lv' := [(0, .ref o), (1, .int (mSum (fun k => av 0 (12 + 4 * k)) (k + 1))), (2, .int (nI (k + 1)))]) (by simp [nI_1, mSum_s, *]) (ih hlt)
  exact lp 0 (Nat.zero_le _)
set_option maxHeartbeats 4000000 in
set_option maxRecDepth 100000 in
theorem ct_X4_strengthOf {K : gK} {h : AH} {o : Nat} {L : Nat → Nat} {iv : Nat → Int32} {av : Nat → Nat → Int32} (hN : mN K o L) {nh : Nat} (h3 : av 0 3 = nI nh) (hh : nh ≤ 6) {x : Int32} : gCt K yX4_strengthOf w_X4_strengthOf 0 0 0 0 (mO K h o L iv av) [.ref o, .int x] (pR (.int (mStr (av 0) nh x)) (mO K h o L iv av)) := by
  refine g_meth pf_X4_strengthOf (nle rfl) (fun p e s m args below meth c F hnm htb => ?_)
  have F : gFix K p s m args meth c cX4_strengthOf 4 RX4 (some .int) := F
  refine g_eql (lv' := [(0, .ref o), (1, .int x)]) rfl ?_
  refine g_iconst (v := 0) F dX4_strengthOf_0 rfl ?_
  refine g_istore_n (lv' := [(2, .int 0), (0, .ref o), (1, .int x)]) F dX4_strengthOf_1 rfl (by decide) rfl ?_
  refine g_iconst (v := 0) F dX4_strengthOf_2 rfl ?_
  refine g_istore_n (lv' := [(3, .int 0), (2, .int 0), (0, .ref o), (1, .int x)]) F dX4_strengthOf_3 rfl (by decide) rfl ?_
  refine g_lv (lv' := [(0, .ref o), (1, .int x), (2, .int 0), (3, .int 0)]) [2, 3, 1, 0] rfl ?_
  have lp : ∀ k, k ≤ nh → G K p e s m args below meth c (gRm 0 0 0 0) 4 (pR (.int (mStr (av 0) nh x)) (mO K h o L iv av)) (mO K h o L iv av) 0 0 4 [(0, .ref o), (1, .int x), (2, .int (mSum (fun k => if av 0 (67 + 2 * k) = x then av 0 (68 + 2 * k) else 0) k)), (3, .int (nI k))] [] := by
    refine gloop nh (fun k hk ih => ?_)
    refine g_iload_n F dX4_strengthOf_4 3 rfl rfl ?_
    refine g_aload_n F dX4_strengthOf_5 0 rfl rfl ?_
    refine gf_X4_9_X4 (v := .ref (L 0)) F dX4_strengthOf_6 mO_o rfl ?_
    refine g_iconst (v := 3) F dX4_strengthOf_9 rfl ?_
    refine g_ialdN (i := 3) F (mO_0 hN) (rfl : (3 : Int32) = nI 3) (show 3 = 3 by omega) (by omega) (by decide) dX4_strengthOf_10 ?_
    refine g_eqs (st' := [.int (nI nh), .int (nI k)]) (by rw [h3]) ?_
    refine g_icmp_ge (tgt := 55) F dX4_strengthOf_11 (by decide) (fun c1 => ?_) (fun c1 => ?_)
    · have hkN : k = nh := gexit (by omega) hk c1
      subst hkN
      refine g_iload_n F dX4_strengthOf_55 2 rfl rfl ?_
      exact g_iret F dX4_strengthOf_56 (⟨rfl, rfl⟩)
    · have hlt : k < nh := gbody (by omega) hk c1
      refine g_iload_n F dX4_strengthOf_14 2 rfl rfl ?_
      refine g_aload_n F dX4_strengthOf_15 0 rfl rfl ?_
      refine gf_X4_9_X4 (v := .ref (L 0)) F dX4_strengthOf_16 mO_o rfl ?_
      refine g_bipush (v := 67) F dX4_strengthOf_19 rfl ?_
      refine g_iconst (v := 2) F dX4_strengthOf_21 rfl ?_
      refine g_iload_n F dX4_strengthOf_22 3 rfl rfl ?_
      refine g_imul F dX4_strengthOf_23 ?_
      refine g_iadd F dX4_strengthOf_24 ?_
      refine g_ialdN (i := 67 + 2 * k) F (mO_0 hN) (nadd (rfl : (67 : Int32) = nI 67) (nmul (rfl : (2 : Int32) = nI 2) rfl)) (show (67 + (2 * k)) = 67 + 2 * k by omega) (by omega) (by decide) dX4_strengthOf_25 ?_
      refine g_iload_n F dX4_strengthOf_26 1 rfl rfl ?_
      refine g_icmp_ne (tgt := 46) F dX4_strengthOf_27 (by decide) (fun c2 => ?_) (fun c2 => ?_)
      · refine g_iconst (v := 0) F dX4_strengthOf_46 rfl ?_
        refine g_iadd F dX4_strengthOf_47 ?_
        refine g_istore_n (lv' := [(2, .int ((mSum (fun k => if av 0 (67 + 2 * k) = x then av 0 (68 + 2 * k) else 0) k) + 0)), (0, .ref o), (1, .int x), (3, .int (nI k))]) F dX4_strengthOf_48 rfl (by decide) rfl ?_
        refine g_iinc (lv' := [(3, .int ((nI k) + 1)), (2, .int ((mSum (fun k => if av 0 (67 + 2 * k) = x then av 0 (68 + 2 * k) else 0) k) + 0)), (0, .ref o), (1, .int x)]) (v := (nI k) + 1) F dX4_strengthOf_49 (k := 3) rfl rfl (by decide) rfl ?_
        refine g_goto (tgt := 4) F dX4_strengthOf_52 (by decide) ?_
        refine g_lv (lv' := [(0, .ref o), (1, .int x), (2, .int ((mSum (fun k => if av 0 (67 + 2 * k) = x then av 0 (68 + 2 * k) else 0) k) + 0)), (3, .int ((nI k) + 1))]) [2, 3, 1, 0] rfl ?_
        exact g_eql (lv' := [(0, .ref o), (1, .int x), (2, .int (mSum (fun k => if av 0 (67 + 2 * k) = x then av 0 (68 + 2 * k) else 0) (k + 1))), (3, .int (nI (k + 1)))]) (by simp [nI_1, mSum_s, *]) (ih hlt)
      · refine g_aload_n F dX4_strengthOf_30 0 rfl rfl ?_
        refine gf_X4_9_X4 (v := .ref (L 0)) F dX4_strengthOf_31 mO_o rfl ?_
        refine g_bipush (v := 67) F dX4_strengthOf_34 rfl ?_
        refine g_iconst (v := 2) F dX4_strengthOf_36 rfl ?_
        refine g_iload_n F dX4_strengthOf_37 3 rfl rfl ?_
        refine g_imul F dX4_strengthOf_38 ?_
        refine g_iadd F dX4_strengthOf_39 ?_
        refine g_iconst (v := 1) F dX4_strengthOf_40 rfl ?_
        refine g_iadd F dX4_strengthOf_41 ?_
        refine g_ialdN (i := 68 + 2 * k) F (mO_0 hN) (nadd (nadd (rfl : (67 : Int32) = nI 67) (nmul (rfl : (2 : Int32) = nI 2) rfl)) (rfl : (1 : Int32) = nI 1)) (show ((67 + (2 * k)) + 1) = 68 + 2 * k by omega) (by omega) (by decide) dX4_strengthOf_42 ?_
        refine g_goto (tgt := 47) F dX4_strengthOf_43 (by decide) ?_
        refine g_iadd F dX4_strengthOf_47 ?_
        refine g_istore_n (lv' := [(2, .int ((mSum (fun k => if av 0 (67 + 2 * k) = x then av 0 (68 + 2 * k) else 0) k) + (av 0 (68 + 2 * k)))), (0, .ref o), (1, .int x), (3, .int (nI k))]) F dX4_strengthOf_48 rfl (by decide) rfl ?_
        refine g_iinc (lv' := [(3, .int ((nI k) + 1)), (2, .int ((mSum (fun k => if av 0 (67 + 2 * k) = x then av 0 (68 + 2 * k) else 0) k) + (av 0 (68 + 2 * k)))), (0, .ref o), (1, .int x)]) (v := (nI k) + 1) F dX4_strengthOf_49 (k := 3) rfl rfl (by decide) rfl ?_
        refine g_goto (tgt := 4) F dX4_strengthOf_52 (by decide) ?_
        refine g_lv (lv' := [(0, .ref o), (1, .int x), (2, .int ((mSum (fun k => if av 0 (67 + 2 * k) = x then av 0 (68 + 2 * k) else 0) k) + (av 0 (68 + 2 * k)))), (3, .int ((nI k) + 1))]) [2, 3, 1, 0] rfl ?_
        exact g_eql (lv' := [(0, .ref o), (1, .int x), (2, .int (mSum (fun k => if av 0 (67 + 2 * k) = x then av 0 (68 + 2 * k) else 0) (k + 1))), (3, .int (nI (k + 1)))]) (by simp [nI_1, mSum_s, *]) (ih hlt)
  exact lp 0 (Nat.zero_le _)
set_option maxHeartbeats 4000000 in
set_option maxRecDepth 100000 in
theorem ct_X4_openDoors {K : gK} {h : AH} {o : Nat} {L : Nat → Nat} {iv : Nat → Int32} {av : Nat → Nat → Int32} (hN : mN K o L) : gCt K yX4_openDoors w_X4_openDoors 0 0 0 0 (mO K h o L iv av) [.ref o] (pR (.int (mDoors (av 0))) (mO K h o L iv av)) := by
  refine g_meth pf_X4_openDoors (nle rfl) (fun p e s m args below meth c F hnm htb => ?_)
  have F : gFix K p s m args meth c cX4_openDoors 3 RX4 (some .int) := F
  refine g_eql (lv' := [(0, .ref o)]) rfl ?_
  refine g_iconst (v := 0) F dX4_openDoors_0 rfl ?_
  refine g_istore_n (lv' := [(1, .int 0), (0, .ref o)]) F dX4_openDoors_1 rfl (by decide) rfl ?_
  refine g_iconst (v := 0) F dX4_openDoors_2 rfl ?_
  refine g_istore_n (lv' := [(2, .int 0), (1, .int 0), (0, .ref o)]) F dX4_openDoors_3 rfl (by decide) rfl ?_
  refine g_lv (lv' := [(0, .ref o), (1, .int 0), (2, .int 0)]) [2, 1, 0] rfl ?_
  have lp : ∀ k, k ≤ 4 → G K p e s m args below meth c (gRm 0 0 0 0) 3 (pR (.int (mDoors (av 0))) (mO K h o L iv av)) (mO K h o L iv av) 0 0 4 [(0, .ref o), (1, .int (mSum (fun k => av 0 (79 + k)) k)), (2, .int (nI k))] [] := by
    refine gloop 4 (fun k hk ih => ?_)
    refine g_iload_n F dX4_openDoors_4 2 rfl rfl ?_
    refine g_iconst (v := 4) F dX4_openDoors_5 rfl ?_
    refine g_icmp_ge (tgt := 27) F dX4_openDoors_6 (by decide) (fun c1 => ?_) (fun c1 => ?_)
    · have hkN : k = 4 := gexit (N := 4) (by decide) hk c1
      subst hkN
      refine g_iload_n F dX4_openDoors_27 1 rfl rfl ?_
      exact g_iret F dX4_openDoors_28 (⟨rfl, rfl⟩)
    · have hlt : k < 4 := gbody (N := 4) (by decide) hk c1
      refine g_iload_n F dX4_openDoors_9 1 rfl rfl ?_
      refine g_aload_n F dX4_openDoors_10 0 rfl rfl ?_
      refine gf_X4_9_X4 (v := .ref (L 0)) F dX4_openDoors_11 mO_o rfl ?_
      refine g_bipush (v := 79) F dX4_openDoors_14 rfl ?_
      refine g_iload_n F dX4_openDoors_16 2 rfl rfl ?_
      refine g_iadd F dX4_openDoors_17 ?_
      refine g_ialdN (i := 79 + k) F (mO_0 hN) (nadd (rfl : (79 : Int32) = nI 79) rfl) (show (79 + k) = 79 + k by omega) (by omega) (by decide) dX4_openDoors_18 ?_
      refine g_iadd F dX4_openDoors_19 ?_
      refine g_istore_n (lv' := [(1, .int ((mSum (fun k => av 0 (79 + k)) k) + (av 0 (79 + k)))), (0, .ref o), (2, .int (nI k))]) F dX4_openDoors_20 rfl (by decide) rfl ?_
      refine g_iinc (lv' := [(2, .int ((nI k) + 1)), (1, .int ((mSum (fun k => av 0 (79 + k)) k) + (av 0 (79 + k)))), (0, .ref o)]) (v := (nI k) + 1) F dX4_openDoors_21 (k := 2) rfl rfl (by decide) rfl ?_
      refine g_goto (tgt := 4) F dX4_openDoors_24 (by decide) ?_
      refine g_lv (lv' := [(0, .ref o), (1, .int ((mSum (fun k => av 0 (79 + k)) k) + (av 0 (79 + k)))), (2, .int ((nI k) + 1))]) [2, 1, 0] rfl ?_
      exact g_eql (lv' := [(0, .ref o), (1, .int (mSum (fun k => av 0 (79 + k)) (k + 1))), (2, .int (nI (k + 1)))]) (by simp [nI_1, mSum_s, *]) (ih hlt)
  exact lp 0 (Nat.zero_le _)
set_option maxHeartbeats 4000000 in
set_option maxRecDepth 100000 in
theorem ct_X4_off {K : gK} {h : AH} {o : Nat} {L : Nat → Nat} {iv : Nat → Int32} {av : Nat → Nat → Int32} (hN : mN K o L) {nc i : Nat} (h2 : av 0 2 = nI nc) (hc : nc ≤ 12) (hi : i < 8) : gCt K yX4_off w_X4_off 2 44 0 0 (mO K h o L iv av) [.ref o, .int (nI i)] (pR (.int (mOff (av 0) nc i (nI i))) (mO K h o L iv av)) := by
  refine g_meth pf_X4_off (nle rfl) (fun p e s m args below meth c F hnm htb => ?_)
  have F : gFix K p s m args meth c cX4_off 2 RX4 (some .int) := F
  refine g_eql (lv' := [(0, .ref o), (1, .int (nI i))]) rfl ?_
  refine g_aload_n F dX4_off_0 0 rfl rfl ?_
  refine g_iload_n F dX4_off_1 1 rfl rfl ?_
  refine g_callV F dX4_off_2 mi_X4_load q2377 q2379 qs31 gc_X4 mO_o (ct_X4_load hN h2 hc) rfl rfl (nle rfl) (nle rfl) (nle rfl) (g_pur ?_) g_purX
  refine g_bipush (v := 10) F dX4_off_5 rfl ?_
  refine g_aload_n F dX4_off_7 0 rfl rfl ?_
  refine g_iload_n F dX4_off_8 1 rfl rfl ?_
  refine g_iconst (v := 1) F dX4_off_9 rfl ?_
  refine g_callV F dX4_off_10 mi_X4_bar1 q2373 q2375 qs30 gc_X4 mO_o (ct_X4_bar1 hN (i := 12 + 4 * i) (nto (nadd (nadd (rfl : (11 : Int32) = nI 11) (nmul (rfl : (4 : Int32) = nI 4) rfl)) (rfl : (1 : Int32) = nI 1)) (show ((11 + (4 * i)) + 1) = 12 + 4 * i by omega)) (by omega)) rfl rfl (nle rfl) (nle rfl) (nle rfl) (g_pur ?_) g_purX
  refine g_imul F dX4_off_13 ?_
  refine g_isub F dX4_off_14 ?_
  refine g_callS F dX4_off_15 mi_J16_abs q2393 q1130 ct_J16_abs rfl rfl (nle rfl) (nle rfl) (nle rfl) (g_pur ?_) g_purX
  exact g_iret F dX4_off_18 (⟨rfl, rfl⟩)
set_option maxHeartbeats 4000000 in
set_option maxRecDepth 100000 in
theorem ct_X4_bears {K : gK} {h : AH} {o : Nat} {L : Nat → Nat} {iv : Nat → Int32} {av : Nat → Nat → Int32} (hN : mN K o L) {i : Nat} (hi : i < 8) : gCt K yX4_bears w_X4_bears 1 22 0 0 (mO K h o L iv av) [.ref o, .int (nI i)] (pR (.int (mBears (av 0) i)) (mO K h o L iv av)) := by
  refine g_meth pf_X4_bears (nle rfl) (fun p e s m args below meth c F hnm htb => ?_)
  have F : gFix K p s m args meth c cX4_bears 2 RX4 (some .int) := F
  refine g_eql (lv' := [(0, .ref o), (1, .int (nI i))]) rfl ?_
  refine g_iconst (v := 0) F dX4_bears_0 rfl ?_
  refine g_sipush (v := 300) F dX4_bears_1 rfl ?_
  refine g_bipush (v := 25) F dX4_bears_4 rfl ?_
  refine g_aload_n F dX4_bears_6 0 rfl rfl ?_
  refine g_iload_n F dX4_bears_7 1 rfl rfl ?_
  refine g_iconst (v := 2) F dX4_bears_8 rfl ?_
  refine g_callV F dX4_bears_9 mi_X4_bar1 q2373 q2375 qs30 gc_X4 mO_o (ct_X4_bar1 hN (i := 13 + 4 * i) (nto (nadd (nadd (rfl : (11 : Int32) = nI 11) (nmul (rfl : (4 : Int32) = nI 4) rfl)) (rfl : (2 : Int32) = nI 2)) (show ((11 + (4 * i)) + 2) = 13 + 4 * i by omega)) (by omega)) rfl rfl (nle rfl) (nle rfl) (nle rfl) (g_pur ?_) g_purX
  refine g_imul F dX4_bears_12 ?_
  refine g_isub F dX4_bears_13 ?_
  refine g_callS F dX4_bears_14 mi_J16_max q2398 q664 ct_J16_max rfl rfl (nle rfl) (nle rfl) (nle rfl) (g_pur ?_) g_purX
  exact g_iret F dX4_bears_17 (⟨rfl, rfl⟩)
set_option maxHeartbeats 4000000 in
set_option maxRecDepth 100000 in
theorem ct_X4_lacks {K : gK} {h : AH} {o : Nat} {L : Nat → Nat} {iv : Nat → Int32} {av : Nat → Nat → Int32} (hN : mN K o L) {nc i : Nat} (h2 : av 0 2 = nI nc) (hc : nc ≤ 12) (hi : i < 8) : gCt K yX4_lacks w_X4_lacks 2 44 0 0 (mO K h o L iv av) [.ref o, .int (nI i)] (pR (.int (mLacks (av 0) nc i)) (mO K h o L iv av)) := by
  refine g_meth pf_X4_lacks (nle rfl) (fun p e s m args below meth c F hnm htb => ?_)
  have F : gFix K p s m args meth c cX4_lacks 2 RX4 (some .int) := F
  refine g_eql (lv' := [(0, .ref o), (1, .int (nI i))]) rfl ?_
  refine g_iconst (v := 0) F dX4_lacks_0 rfl ?_
  refine g_aload_n F dX4_lacks_1 0 rfl rfl ?_
  refine g_iload_n F dX4_lacks_2 1 rfl rfl ?_
  refine g_callV F dX4_lacks_3 mi_X4_load q2377 q2379 qs31 gc_X4 mO_o (ct_X4_load hN h2 hc) rfl rfl (nle rfl) (nle rfl) (nle rfl) (g_pur ?_) g_purX
  refine g_bipush (v := 10) F dX4_lacks_6 rfl ?_
  refine g_aload_n F dX4_lacks_8 0 rfl rfl ?_
  refine g_iload_n F dX4_lacks_9 1 rfl rfl ?_
  refine g_iconst (v := 1) F dX4_lacks_10 rfl ?_
  refine g_callV F dX4_lacks_11 mi_X4_bar1 q2373 q2375 qs30 gc_X4 mO_o (ct_X4_bar1 hN (i := 12 + 4 * i) (nto (nadd (nadd (rfl : (11 : Int32) = nI 11) (nmul (rfl : (4 : Int32) = nI 4) rfl)) (rfl : (1 : Int32) = nI 1)) (show ((11 + (4 * i)) + 1) = 12 + 4 * i by omega)) (by omega)) rfl rfl (nle rfl) (nle rfl) (nle rfl) (g_pur ?_) g_purX
  refine g_imul F dX4_lacks_14 ?_
  refine g_iadd F dX4_lacks_15 ?_
  refine g_aload_n F dX4_lacks_16 0 rfl rfl ?_
  refine g_iload_n F dX4_lacks_17 1 rfl rfl ?_
  refine g_callV F dX4_lacks_18 mi_X4_bears q2394 q2396 qs35 gc_X4 mO_o (ct_X4_bears hN (i := i) (by omega)) rfl rfl (nle rfl) (nle rfl) (nle rfl) (g_pur ?_) g_purX
  refine g_isub F dX4_lacks_21 ?_
  refine g_callS F dX4_lacks_22 mi_J16_max q2398 q664 ct_J16_max rfl rfl (nle rfl) (nle rfl) (nle rfl) (g_pur ?_) g_purX
  exact g_iret F dX4_lacks_25 (⟨rfl, rfl⟩)
set_option maxHeartbeats 4000000 in
set_option maxRecDepth 100000 in
theorem ct_X4_loud {K : gK} {h : AH} {o : Nat} {L : Nat → Nat} {iv : Nat → Int32} {av : Nat → Nat → Int32} (hN : mN K o L) {i : Nat} {y : Int32} (hi : i < 8) : gCt K yX4_loud w_X4_loud 1 22 0 0 (mO K h o L iv av) [.ref o, .int (nI i), .int y] (pR (.int (mLoud (av 0) i y)) (mO K h o L iv av)) := by
  refine g_meth pf_X4_loud (nle rfl) (fun p e s m args below meth c F hnm htb => ?_)
  have F : gFix K p s m args meth c cX4_loud 3 RX4 (some .int) := F
  refine g_eql (lv' := [(0, .ref o), (1, .int (nI i)), (2, .int y)]) rfl ?_
  refine g_iload_n F dX4_loud_0 2 rfl rfl ?_
  refine g_aload_n F dX4_loud_1 0 rfl rfl ?_
  refine g_iload_n F dX4_loud_2 1 rfl rfl ?_
  refine g_iconst (v := 0) F dX4_loud_3 rfl ?_
  refine g_callV F dX4_loud_4 mi_X4_bar1 q2373 q2375 qs30 gc_X4 mO_o (ct_X4_bar1 hN (i := 11 + 4 * i) (nto (nadd (nadd (rfl : (11 : Int32) = nI 11) (nmul (rfl : (4 : Int32) = nI 4) rfl)) (rfl : (0 : Int32) = nI 0)) (show ((11 + (4 * i)) + 0) = 11 + 4 * i by omega)) (by omega)) rfl rfl (nle rfl) (nle rfl) (nle rfl) (g_pur ?_) g_purX
  refine g_isub F dX4_loud_7 ?_
  refine g_callS F dX4_loud_8 mi_J16_abs q2393 q1130 ct_J16_abs rfl rfl (nle rfl) (nle rfl) (nle rfl) (g_pur ?_) g_purX
  refine g_iconst (v := 4) F dX4_loud_11 rfl ?_
  refine g_idiv F dX4_loud_12 (by decide) ?_
  refine g_aload_n F dX4_loud_13 0 rfl rfl ?_
  refine g_iload_n F dX4_loud_14 1 rfl rfl ?_
  refine g_iconst (v := 2) F dX4_loud_15 rfl ?_
  refine g_callV F dX4_loud_16 mi_X4_bar1 q2373 q2375 qs30 gc_X4 mO_o (ct_X4_bar1 hN (i := 13 + 4 * i) (nto (nadd (nadd (rfl : (11 : Int32) = nI 11) (nmul (rfl : (4 : Int32) = nI 4) rfl)) (rfl : (2 : Int32) = nI 2)) (show ((11 + (4 * i)) + 2) = 13 + 4 * i by omega)) (by omega)) rfl rfl (nle rfl) (nle rfl) (nle rfl) (g_pur ?_) g_purX
  refine g_iconst (v := 3) F dX4_loud_19 rfl ?_
  refine g_idiv F dX4_loud_20 (by decide) ?_
  refine g_iadd F dX4_loud_21 ?_
  refine g_iconst (v := 2) F dX4_loud_22 rfl ?_
  refine g_aload_n F dX4_loud_23 0 rfl rfl ?_
  refine g_callV F dX4_loud_24 mi_X4_openDoors q2508 q2510 qs48 gc_X4 mO_o (ct_X4_openDoors hN) rfl rfl (nle rfl) (nle rfl) (nle rfl) (g_pur ?_) g_purX
  refine g_imul F dX4_loud_27 ?_
  refine g_iadd F dX4_loud_28 ?_
  exact g_iret F dX4_loud_29 (⟨rfl, rfl⟩)
set_option maxHeartbeats 4000000 in
set_option maxRecDepth 100000 in
theorem ct_X4_whyNot {K : gK} {h : AH} {o : Nat} {L : Nat → Nat} {iv : Nat → Int32} {av : Nat → Nat → Int32} (hN : mN K o L) {nc nh i : Nat} (h2 : av 0 2 = nI nc) (hc : nc ≤ 12) (h3 : av 0 3 = nI nh) (hh : nh ≤ 6) (hi : i < 8) : gCt K yX4_whyNot w_X4_whyNot 3 65 0 0 (mO K h o L iv av) [.ref o, .int (nI i)] (pR (.int (mWhy (av 0) nc nh i)) (mO K h o L iv av)) := by
  refine g_meth pf_X4_whyNot (nle rfl) (fun p e s m args below meth c F hnm htb => ?_)
  have F : gFix K p s m args meth c cX4_whyNot 2 RX4 (some .int) := F
  refine g_eql (lv' := [(0, .ref o), (1, .int (nI i))]) rfl ?_
  refine g_aload_n F dX4_whyNot_0 0 rfl rfl ?_
  refine g_iload_n F dX4_whyNot_1 1 rfl rfl ?_
  refine g_callV F dX4_whyNot_2 mi_X4_off q2389 q2391 qs34 gc_X4 mO_o (ct_X4_off hN (i := i) h2 hc (by omega)) rfl rfl (nle rfl) (nle rfl) (nle rfl) (g_pur ?_) g_purX
  refine g_aload_n F dX4_whyNot_5 0 rfl rfl ?_
  refine gf_X4_9_X4 (v := .ref (L 0)) F dX4_whyNot_6 mO_o rfl ?_
  refine g_iconst (v := 5) F dX4_whyNot_9 rfl ?_
  refine g_ialdN (i := 5) F (mO_0 hN) (rfl : (5 : Int32) = nI 5) (show 5 = 5 by omega) (by omega) (by decide) dX4_whyNot_10 ?_
  refine g_icmp_le (tgt := 18) F dX4_whyNot_11 (by decide) (fun c1 => ?_) (fun c1 => ?_)
  · refine g_aload_n F dX4_whyNot_18 0 rfl rfl ?_
    refine g_iload_n F dX4_whyNot_19 1 rfl rfl ?_
    refine g_callV F dX4_whyNot_20 mi_X4_lacks q2419 q2421 qs39 gc_X4 mO_o (ct_X4_lacks hN (i := i) h2 hc (by omega)) rfl rfl (nle rfl) (nle rfl) (nle rfl) (g_pur ?_) g_purX
    refine g_if_le (tgt := 30) F dX4_whyNot_23 (by decide) (fun c2 => ?_) (fun c2 => ?_)
    · refine g_aload_n F dX4_whyNot_30 0 rfl rfl ?_
      refine g_iload_n F dX4_whyNot_31 1 rfl rfl ?_
      refine g_iconst (v := 3) F dX4_whyNot_32 rfl ?_
      refine g_irem F dX4_whyNot_33 (by decide) ?_
      refine g_callV F dX4_whyNot_34 mi_X4_strengthOf q2492 q2494 qs46 gc_X4 mO_o (ct_X4_strengthOf hN h3 hh) rfl rfl (nle rfl) (nle rfl) (nle rfl) (g_pur ?_) g_purX
      refine g_aload_n F dX4_whyNot_37 0 rfl rfl ?_
      refine g_iload_n F dX4_whyNot_38 1 rfl rfl ?_
      refine g_callV F dX4_whyNot_39 mi_X4_off q2389 q2391 qs34 gc_X4 mO_o (ct_X4_off hN (i := i) h2 hc (by omega)) rfl rfl (nle rfl) (nle rfl) (nle rfl) (g_pur ?_) g_purX
      refine g_icmp_ge (tgt := 49) F dX4_whyNot_42 (by decide) (fun c3 => ?_) (fun c3 => ?_)
      · refine g_iconst (v := 0) F dX4_whyNot_49 rfl ?_
        exact g_iret F dX4_whyNot_50 (⟨by rw [mWhy_r]; grind, rfl⟩)
      · refine g_iconst (v := 4) F dX4_whyNot_45 rfl ?_
        refine g_goto (tgt := 50) F dX4_whyNot_46 (by decide) ?_
        exact g_iret F dX4_whyNot_50 (⟨by rw [mWhy_r]; grind, rfl⟩)
    · refine g_iconst (v := 2) F dX4_whyNot_26 rfl ?_
      refine g_goto (tgt := 50) F dX4_whyNot_27 (by decide) ?_
      exact g_iret F dX4_whyNot_50 (⟨by rw [mWhy_r]; grind, rfl⟩)
  · refine g_iconst (v := 3) F dX4_whyNot_14 rfl ?_
    refine g_goto (tgt := 50) F dX4_whyNot_15 (by decide) ?_
    exact g_iret F dX4_whyNot_50 (⟨by rw [mWhy_r]; grind, rfl⟩)
set_option maxHeartbeats 4000000 in
set_option maxRecDepth 100000 in
theorem ct_X4_isRefused {K : gK} {h : AH} {o : Nat} {L : Nat → Nat} {iv : Nat → Int32} {av : Nat → Nat → Int32} (hN : mN K o L) {nc nh i : Nat} (h2 : av 0 2 = nI nc) (hc : nc ≤ 12) (h3 : av 0 3 = nI nh) (hh : nh ≤ 6) (hi : i < 8) {y : Int32} : gCt K yX4_isRefused w_X4_isRefused 4 86 0 0 (mO K h o L iv av) [.ref o, .int (nI i), .int y] (pR (.int (if mWhy (av 0) nc nh i = 0 then 0 else 1)) (if mWhy (av 0) nc nh i = 0 then mO K h o L iv av else mO K h o L (upd (upd (upd iv 7 y) 8 (mWhy (av 0) nc nh i)) 9 (mDet (av 0) nc nh i)) av)) := by
  refine g_meth pf_X4_isRefused (nle rfl) (fun p e s m args below meth c F hnm htb => ?_)
  have F : gFix K p s m args meth c cX4_isRefused 5 RX4 (some .boolean) := F
  refine g_eql (lv' := [(0, .ref o), (1, .int (nI i)), (2, .int y)]) rfl ?_
  refine g_aload_n F dX4_isRefused_0 0 rfl rfl ?_
  refine g_iload_n F dX4_isRefused_1 1 rfl rfl ?_
  refine g_callV F dX4_isRefused_2 mi_X4_whyNot q2532 q2534 qs52 gc_X4 mO_o (ct_X4_whyNot hN (i := i) h2 hc h3 hh (by omega)) rfl rfl (nle rfl) (nle rfl) (nle rfl) (g_pur ?_) g_purX
  refine g_istore_n (lv' := [(3, .int (mWhy (av 0) nc nh i)), (0, .ref o), (1, .int (nI i)), (2, .int y)]) F dX4_isRefused_5 rfl (by decide) rfl ?_
  refine g_iload_n F dX4_isRefused_6 0 rfl rfl ?_
  refine g_if_le (tgt := 51) F dX4_isRefused_7 (by decide) (fun c1 => ?_) (fun c1 => ?_)
  · have hw : mWhy (av 0) nc nh i = 0 := Classical.byContradiction (fun z => absurd ((mWhy_p (av 0) nc nh i).mpr z) (Int32.not_lt.mpr c1))
    refine g_iload_n F dX4_isRefused_51 0 rfl rfl ?_
    refine g_if_le (tgt := 59) F dX4_isRefused_52 (by decide) (fun c2 => ?_) (fun c2 => absurd c2 (absurd ((mWhy_p (av 0) nc nh i).mp (Int32.not_le.mp c2)) (by simpa using hw)))
    refine g_iconst (v := 0) F dX4_isRefused_59 rfl ?_
    exact g_zret F dX4_isRefused_60 (by first | rfl | exact mIn_n | (split <;> rfl) | decide) (⟨by rw [if_pos hw], by rw [if_pos hw]⟩)
  · have hw : mWhy (av 0) nc nh i ≠ 0 := (mWhy_p (av 0) nc nh i).mp (Int32.not_le.mp c1)
    refine g_aload_n F dX4_isRefused_10 1 rfl rfl ?_
    refine g_iload_n F dX4_isRefused_11 3 rfl rfl ?_
    refine g_iload_n F dX4_isRefused_12 0 rfl rfl ?_
    refine g_iload_n F dX4_isRefused_13 0 rfl rfl ?_
    refine g_iconst (v := 3) F dX4_isRefused_14 rfl ?_
    refine g_icmp_ne (tgt := 26) F dX4_isRefused_15 (by decide) (fun c3 => ?_) (fun c3 => ?_)
    · refine g_iload_n F dX4_isRefused_26 0 rfl rfl ?_
      refine g_iconst (v := 2) F dX4_isRefused_27 rfl ?_
      refine g_icmp_ne (tgt := 39) F dX4_isRefused_28 (by decide) (fun c4 => ?_) (fun c4 => ?_)
      · refine g_aload_n F dX4_isRefused_39 1 rfl rfl ?_
        refine g_iload_n F dX4_isRefused_40 2 rfl rfl ?_
        refine g_iconst (v := 3) F dX4_isRefused_41 rfl ?_
        refine g_irem F dX4_isRefused_42 (by decide) ?_
        refine g_callV F dX4_isRefused_43 mi_X4_strengthOf q2492 q2494 qs46 gc_X4 mO_o (ct_X4_strengthOf hN h3 hh) rfl rfl (nle rfl) (nle rfl) (nle rfl) (g_pur ?_) g_purX
        refine g_callV F dX4_isRefused_46 mi_X4_refuse q2407 q2409 qs37 gc_X4 mO_o (ct_X4_refuse hN) rfl rfl (nle rfl) (nle rfl) (nle rfl) (g_pur ?_) g_purX
        refine g_istore (lv' := [(4, .int 0), (3, .int (mWhy (av 0) nc nh i)), (0, .ref o), (1, .int (nI i)), (2, .int y)]) F dX4_isRefused_49 (by decide) rfl ?_
        refine g_iload_n F dX4_isRefused_51 1 rfl rfl ?_
        refine g_if_le (tgt := 59) F dX4_isRefused_52 (by decide) (fun c5 => absurd c5 (absurd ((mWhy_p (av 0) nc nh i).mpr hw) (Int32.not_lt.mpr c5))) (fun c5 => ?_)
        refine g_iconst (v := 1) F dX4_isRefused_55 rfl ?_
        refine g_goto (tgt := 60) F dX4_isRefused_56 (by decide) ?_
        exact g_zret F dX4_isRefused_60 (by first | rfl | exact mIn_n | (split <;> rfl) | decide) (⟨by rw [if_neg hw], by rw [if_neg hw]; simp only [mDet, *]; try simp⟩)
      · refine g_aload_n F dX4_isRefused_31 1 rfl rfl ?_
        refine g_iload_n F dX4_isRefused_32 2 rfl rfl ?_
        refine g_callV F dX4_isRefused_33 mi_X4_lacks q2419 q2421 qs39 gc_X4 mO_o (ct_X4_lacks hN (i := i) h2 hc (by omega)) rfl rfl (nle rfl) (nle rfl) (nle rfl) (g_pur ?_) g_purX
        refine g_goto (tgt := 46) F dX4_isRefused_36 (by decide) ?_
        refine g_callV F dX4_isRefused_46 mi_X4_refuse q2407 q2409 qs37 gc_X4 mO_o (ct_X4_refuse hN) rfl rfl (nle rfl) (nle rfl) (nle rfl) (g_pur ?_) g_purX
        refine g_istore (lv' := [(4, .int 0), (3, .int (mWhy (av 0) nc nh i)), (0, .ref o), (1, .int (nI i)), (2, .int y)]) F dX4_isRefused_49 (by decide) rfl ?_
        refine g_iload_n F dX4_isRefused_51 1 rfl rfl ?_
        refine g_if_le (tgt := 59) F dX4_isRefused_52 (by decide) (fun c6 => absurd c6 (absurd ((mWhy_p (av 0) nc nh i).mpr hw) (Int32.not_lt.mpr c6))) (fun c6 => ?_)
        refine g_iconst (v := 1) F dX4_isRefused_55 rfl ?_
        refine g_goto (tgt := 60) F dX4_isRefused_56 (by decide) ?_
        exact g_zret F dX4_isRefused_60 (by first | rfl | exact mIn_n | (split <;> rfl) | decide) (⟨by rw [if_neg hw], by rw [if_neg hw]; simp only [mDet, *]; try simp⟩)
    · refine g_aload_n F dX4_isRefused_18 1 rfl rfl ?_
      refine g_iload_n F dX4_isRefused_19 2 rfl rfl ?_
      refine g_callV F dX4_isRefused_20 mi_X4_off q2389 q2391 qs34 gc_X4 mO_o (ct_X4_off hN (i := i) h2 hc (by omega)) rfl rfl (nle rfl) (nle rfl) (nle rfl) (g_pur ?_) g_purX
      refine g_goto (tgt := 46) F dX4_isRefused_23 (by decide) ?_
      refine g_callV F dX4_isRefused_46 mi_X4_refuse q2407 q2409 qs37 gc_X4 mO_o (ct_X4_refuse hN) rfl rfl (nle rfl) (nle rfl) (nle rfl) (g_pur ?_) g_purX
      refine g_istore (lv' := [(4, .int 0), (3, .int (mWhy (av 0) nc nh i)), (0, .ref o), (1, .int (nI i)), (2, .int y)]) F dX4_isRefused_49 (by decide) rfl ?_
      refine g_iload_n F dX4_isRefused_51 1 rfl rfl ?_
      refine g_if_le (tgt := 59) F dX4_isRefused_52 (by decide) (fun c7 => absurd c7 (absurd ((mWhy_p (av 0) nc nh i).mpr hw) (Int32.not_lt.mpr c7))) (fun c7 => ?_)
      refine g_iconst (v := 1) F dX4_isRefused_55 rfl ?_
      refine g_goto (tgt := 60) F dX4_isRefused_56 (by decide) ?_
      exact g_zret F dX4_isRefused_60 (by first | rfl | exact mIn_n | (split <;> rfl) | decide) (⟨by rw [if_neg hw], by rw [if_neg hw]; simp only [mDet, *]; try simp⟩)
set_option maxHeartbeats 4000000 in
set_option maxRecDepth 100000 in
theorem ct_X4_doHang {K : gK} {h : AH} {o : Nat} {L : Nat → Nat} {iv : Nat → Int32} {av : Nat → Nat → Int32} (hN : mN K o L) {x y : Int32} {nb nc nh nq : Nat} (hC : mC (av 0) nb nc nh nq) (hL : mL (av 0) nb nc nq) : gCt K yX4_doHang w_X4_doHang 2 44 0 0 (mO K h o L iv av) [.ref o, .int x, .int y] (pR (.int (xRet (xHang (av 0) nb nc x y))) (mO K h o L (xIv iv (xHang (av 0) nb nc x y)) (xAv av (xHang (av 0) nb nc x y)))) := by
  refine g_meth pf_X4_doHang (nle rfl) (fun p e s m args below meth c F hnm htb => ?_)
  have F : gFix K p s m args meth c cX4_doHang 3 RX4 (some .int) := F
  refine g_eql (lv' := [(0, .ref o), (1, .int x), (2, .int y)]) rfl ?_
  obtain ⟨h1, hb, h2, hc, h3, hh, h4, hq⟩ := hC
  refine g_aload_n F dX4_doHang_0 0 rfl rfl ?_
  refine g_iload_n F dX4_doHang_1 1 rfl rfl ?_
  refine g_callV F dX4_doHang_2 mi_X4_isCurtain q2431 q2433 qs40 gc_X4 mO_o (ct_X4_isCurtain hN h2) rfl rfl (nle rfl) (nle rfl) (nle rfl) (g_pur ?_) g_purX
  refine g_if_eq (tgt := 16) F dX4_doHang_5 (by decide) (fun c1 => ?_) (fun c1 => ?_)
  · refine g_aload_n F dX4_doHang_16 0 rfl rfl ?_
    refine g_iconst (v := 1) F dX4_doHang_17 rfl ?_
    refine g_callV F dX4_doHang_18 mi_X4_fails q2349 q2351 qs26 gc_X4 mO_o (ct_X4_fails hN) rfl rfl (nle rfl) (nle rfl) (nle rfl) (g_pur ?_) g_purX
    have hr : xHang (av 0) nb nc x y = (.inr (1, none) : xR) := by grind [xHang, xHang1, nI_clamp]
    exact g_iret F dX4_doHang_21 (by rw [hr]; exact ⟨rfl, rfl⟩)
  · obtain ⟨cu, hcu, rfl⟩ := xAt_i (by omega) c1
    refine g_aload_n F dX4_doHang_8 0 rfl rfl ?_
    refine g_iload_n F dX4_doHang_9 2 rfl rfl ?_
    refine g_callV F dX4_doHang_10 mi_X4_isBar q2369 q2371 qs29 gc_X4 mO_o (ct_X4_isBar hN h1) rfl rfl (nle rfl) (nle rfl) (nle rfl) (g_pur ?_) g_purX
    refine g_if_ne (tgt := 22) F dX4_doHang_13 (by decide) (fun c2 => ?_) (fun c2 => ?_)
    · obtain ⟨i, hi, rfl⟩ := xAt_i (by omega) c2
      refine g_aload_n F dX4_doHang_22 0 rfl rfl ?_
      refine g_iload_n F dX4_doHang_23 1 rfl rfl ?_
      refine g_callV F dX4_doHang_24 mi_X4_barOf1 q2381 q2383 qs32 gc_X4 mO_o (ct_X4_barOf1 hN (i := 44 + 2 * cu) (nto (nadd (nadd (rfl : (43 : Int32) = nI 43) (nmul (rfl : (2 : Int32) = nI 2) rfl)) (rfl : (1 : Int32) = nI 1)) (show ((43 + (2 * cu)) + 1) = 44 + 2 * cu by omega)) (by omega)) rfl rfl (nle rfl) (nle rfl) (nle rfl) (g_pur ?_) g_purX
      refine g_if_lt (tgt := 43) F dX4_doHang_27 (by decide) (fun c3 => ?_) (fun c3 => ?_)
      · refine g_aload_n F dX4_doHang_43 0 rfl rfl ?_
        refine g_iload_n F dX4_doHang_44 2 rfl rfl ?_
        refine g_iconst (v := 0) F dX4_doHang_45 rfl ?_
        refine g_callV F dX4_doHang_46 mi_X4_bar1 q2373 q2375 qs30 gc_X4 mO_o (ct_X4_bar1 hN (i := 11 + 4 * i) (nto (nadd (nadd (rfl : (11 : Int32) = nI 11) (nmul (rfl : (4 : Int32) = nI 4) rfl)) (rfl : (0 : Int32) = nI 0)) (show ((11 + (4 * i)) + 0) = 11 + 4 * i by omega)) (by omega)) rfl rfl (nle rfl) (nle rfl) (nle rfl) (g_pur ?_) g_purX
        refine g_if_le (tgt := 66) F dX4_doHang_49 (by decide) (fun c4 => ?_) (fun c4 => ?_)
        · refine g_aload_n F dX4_doHang_66 0 rfl rfl ?_
          refine gf_X4_9_X4 (v := .ref (L 0)) F dX4_doHang_67 mO_o rfl ?_
          refine g_bipush (v := 43) F dX4_doHang_70 rfl ?_
          refine g_iconst (v := 2) F dX4_doHang_72 rfl ?_
          refine g_iload_n F dX4_doHang_73 1 rfl rfl ?_
          refine g_imul F dX4_doHang_74 ?_
          refine g_iadd F dX4_doHang_75 ?_
          refine g_iconst (v := 1) F dX4_doHang_76 rfl ?_
          refine g_iadd F dX4_doHang_77 ?_
          refine g_iload_n F dX4_doHang_78 2 rfl rfl ?_
          refine g_miast hN 0 (n := 131) (i := 44 + 2 * cu) F (by decide) (by decide) rfl (mO_0 hN) (nadd (nadd (rfl : (43 : Int32) = nI 43) (nmul (rfl : (2 : Int32) = nI 2) rfl)) (rfl : (1 : Int32) = nI 1)) (show ((43 + (2 * cu)) + 1) = 44 + 2 * cu by omega) (by omega) (by decide) dX4_doHang_79 ?_
          refine g_aload_n F dX4_doHang_80 0 rfl rfl ?_
          refine g_iload_n F dX4_doHang_81 2 rfl rfl ?_
          refine g_callV F dX4_doHang_82 mi_X4_load q2377 q2379 qs31 gc_X4 mO_o (ct_X4_load (av := mu av 0 (upd (av 0) (44 + 2 * cu) (nI i))) hN (by rw [mu_s, pk_un (by omega)]; exact h2) hc) rfl rfl (nle rfl) (nle rfl) (nle rfl) (g_pur ?_) g_purX
          have hr : xHang (av 0) nb nc (nI cu) (nI i) = (.inl (mLoad (upd (av 0) (44 + 2 * cu) (nI i)) nc (nI i), upd (av 0) (44 + 2 * cu) (nI i)) : xR) := by grind [xHang, xHang1, nI_clamp]
          exact g_iret F dX4_doHang_85 (by rw [hr]; exact ⟨rfl, rfl⟩)
        · refine g_aload_n F dX4_doHang_52 0 rfl rfl ?_
          refine g_iconst (v := 2) F dX4_doHang_53 rfl ?_
          refine g_bipush (v := 8) F dX4_doHang_54 rfl ?_
          refine g_aload_n F dX4_doHang_56 0 rfl rfl ?_
          refine g_iload_n F dX4_doHang_57 2 rfl rfl ?_
          refine g_iconst (v := 0) F dX4_doHang_58 rfl ?_
          refine g_callV F dX4_doHang_59 mi_X4_bar1 q2373 q2375 qs30 gc_X4 mO_o (ct_X4_bar1 hN (i := 11 + 4 * i) (nto (nadd (nadd (rfl : (11 : Int32) = nI 11) (nmul (rfl : (4 : Int32) = nI 4) rfl)) (rfl : (0 : Int32) = nI 0)) (show ((11 + (4 * i)) + 0) = 11 + 4 * i by omega)) (by omega)) rfl rfl (nle rfl) (nle rfl) (nle rfl) (g_pur ?_) g_purX
          refine g_callV F dX4_doHang_62 mi_X4_refuse q2407 q2409 qs37 gc_X4 mO_o (ct_X4_refuse hN) rfl rfl (nle rfl) (nle rfl) (nle rfl) (g_pur ?_) g_purX
          have hr : xHang (av 0) nb nc (nI cu) (nI i) = (.inr (2, some (8, av 0 (11 + 4 * i))) : xR) := by grind [xHang, xHang1, nI_clamp]
          exact g_iret F dX4_doHang_65 (by rw [hr]; exact ⟨rfl, rfl⟩)
      · refine g_aload_n F dX4_doHang_30 0 rfl rfl ?_
        refine g_iconst (v := 2) F dX4_doHang_31 rfl ?_
        refine g_bipush (v := 6) F dX4_doHang_32 rfl ?_
        refine g_aload_n F dX4_doHang_34 0 rfl rfl ?_
        refine g_iload_n F dX4_doHang_35 1 rfl rfl ?_
        refine g_callV F dX4_doHang_36 mi_X4_barOf1 q2381 q2383 qs32 gc_X4 mO_o (ct_X4_barOf1 hN (i := 44 + 2 * cu) (nto (nadd (nadd (rfl : (43 : Int32) = nI 43) (nmul (rfl : (2 : Int32) = nI 2) rfl)) (rfl : (1 : Int32) = nI 1)) (show ((43 + (2 * cu)) + 1) = 44 + 2 * cu by omega)) (by omega)) rfl rfl (nle rfl) (nle rfl) (nle rfl) (g_pur ?_) g_purX
        refine g_callV F dX4_doHang_39 mi_X4_refuse q2407 q2409 qs37 gc_X4 mO_o (ct_X4_refuse hN) rfl rfl (nle rfl) (nle rfl) (nle rfl) (g_pur ?_) g_purX
        have hr : xHang (av 0) nb nc (nI cu) (nI i) = (.inr (2, some (6, av 0 (44 + 2 * cu))) : xR) := by grind [xHang, xHang1, nI_clamp]
        exact g_iret F dX4_doHang_42 (by rw [hr]; exact ⟨rfl, rfl⟩)
    · refine g_aload_n F dX4_doHang_16 0 rfl rfl ?_
      refine g_iconst (v := 1) F dX4_doHang_17 rfl ?_
      refine g_callV F dX4_doHang_18 mi_X4_fails q2349 q2351 qs26 gc_X4 mO_o (ct_X4_fails hN) rfl rfl (nle rfl) (nle rfl) (nle rfl) (g_pur ?_) g_purX
      have hr : xHang (av 0) nb nc (nI cu) y = (.inr (1, none) : xR) := by grind [xHang, xHang1, nI_clamp]
      exact g_iret F dX4_doHang_21 (by rw [hr]; exact ⟨rfl, rfl⟩)
set_option maxHeartbeats 4000000 in
set_option maxRecDepth 100000 in
theorem ct_X4_doDrop {K : gK} {h : AH} {o : Nat} {L : Nat → Nat} {iv : Nat → Int32} {av : Nat → Nat → Int32} (hN : mN K o L) {x : Int32} {nb nc nh nq : Nat} (hC : mC (av 0) nb nc nh nq) (hL : mL (av 0) nb nc nq) : gCt K yX4_doDrop w_X4_doDrop 2 43 0 0 (mO K h o L iv av) [.ref o, .int x] (pR (.int (xRet (xDrop (av 0) nc x))) (mO K h o L (xIv iv (xDrop (av 0) nc x)) (xAv av (xDrop (av 0) nc x)))) := by
  refine g_meth pf_X4_doDrop (nle rfl) (fun p e s m args below meth c F hnm htb => ?_)
  have F : gFix K p s m args meth c cX4_doDrop 3 RX4 (some .int) := F
  refine g_eql (lv' := [(0, .ref o), (1, .int x)]) rfl ?_
  obtain ⟨h1, hb, h2, hc, h3, hh, h4, hq⟩ := hC
  refine g_aload_n F dX4_doDrop_0 0 rfl rfl ?_
  refine g_iload_n F dX4_doDrop_1 1 rfl rfl ?_
  refine g_callV F dX4_doDrop_2 mi_X4_isCurtain q2431 q2433 qs40 gc_X4 mO_o (ct_X4_isCurtain hN h2) rfl rfl (nle rfl) (nle rfl) (nle rfl) (g_pur ?_) g_purX
  refine g_if_ne (tgt := 14) F dX4_doDrop_5 (by decide) (fun c1 => ?_) (fun c1 => ?_)
  · obtain ⟨cu, hcu, rfl⟩ := xAt_i (by omega) c1
    refine g_aload_n F dX4_doDrop_14 0 rfl rfl ?_
    refine g_iload_n F dX4_doDrop_15 1 rfl rfl ?_
    refine g_callV F dX4_doDrop_16 mi_X4_barOf1 q2381 q2383 qs32 gc_X4 mO_o (ct_X4_barOf1 hN (i := 44 + 2 * cu) (nto (nadd (nadd (rfl : (43 : Int32) = nI 43) (nmul (rfl : (2 : Int32) = nI 2) rfl)) (rfl : (1 : Int32) = nI 1)) (show ((43 + (2 * cu)) + 1) = 44 + 2 * cu by omega)) (by omega)) rfl rfl (nle rfl) (nle rfl) (nle rfl) (g_pur ?_) g_purX
    refine g_istore_n (lv' := [(2, .int (av 0 (44 + 2 * cu))), (0, .ref o), (1, .int (nI cu))]) F dX4_doDrop_19 rfl (by decide) rfl ?_
    refine g_iload_n F dX4_doDrop_20 0 rfl rfl ?_
    refine g_if_ge (tgt := 33) F dX4_doDrop_21 (by decide) (fun c2 => ?_) (fun c2 => ?_)
    · obtain ⟨i, hi, hbi⟩ : ∃ i, i < nb ∧ av 0 (44 + 2 * cu) = nI i := by
        rcases hL.1 cu hcu with q | q
        · rw [q] at c2; exact absurd c2 (by decide)
        · exact q
      refine g_aload_n F dX4_doDrop_33 1 rfl rfl ?_
      refine g_iload_n F dX4_doDrop_34 0 rfl rfl ?_
      refine g_iconst (v := 0) F dX4_doDrop_35 rfl ?_
      refine g_callV F dX4_doDrop_36 mi_X4_bar1 q2373 q2375 qs30 gc_X4 mO_o (ct_X4_bar1 hN (i := 11 + 4 * i) (nto (nadd (nadd (rfl : (11 : Int32) = nI 11) (nmul (rfl : (4 : Int32) = nI 4) hbi)) (rfl : (0 : Int32) = nI 0)) (show ((11 + (4 * i)) + 0) = 11 + 4 * i by omega)) (by omega)) rfl rfl (nle rfl) (nle rfl) (nle rfl) (g_pur ?_) g_purX
      refine g_if_le (tgt := 56) F dX4_doDrop_39 (by decide) (fun c3 => ?_) (fun c3 => ?_)
      · refine g_aload_n F dX4_doDrop_56 1 rfl rfl ?_
        refine gf_X4_9_X4 (v := .ref (L 0)) F dX4_doDrop_57 mO_o rfl ?_
        refine g_bipush (v := 43) F dX4_doDrop_60 rfl ?_
        refine g_iconst (v := 2) F dX4_doDrop_62 rfl ?_
        refine g_iload_n F dX4_doDrop_63 2 rfl rfl ?_
        refine g_imul F dX4_doDrop_64 ?_
        refine g_iadd F dX4_doDrop_65 ?_
        refine g_iconst (v := 1) F dX4_doDrop_66 rfl ?_
        refine g_iadd F dX4_doDrop_67 ?_
        refine g_iconst (v := (-1)) F dX4_doDrop_68 rfl ?_
        refine g_miast hN 0 (n := 131) (i := 44 + 2 * cu) F (by decide) (by decide) rfl (mO_0 hN) (nadd (nadd (rfl : (43 : Int32) = nI 43) (nmul (rfl : (2 : Int32) = nI 2) rfl)) (rfl : (1 : Int32) = nI 1)) (show ((43 + (2 * cu)) + 1) = 44 + 2 * cu by omega) (by omega) (by decide) dX4_doDrop_69 ?_
        refine g_iload_n F dX4_doDrop_70 0 rfl rfl ?_
        have hr : xDrop (av 0) nc (nI cu) = (.inl (av 0 (44 + 2 * cu), upd (av 0) (44 + 2 * cu) (-1)) : xR) := by grind [xDrop, xDrop1, nI_clamp]
        exact g_iret F dX4_doDrop_71 (by rw [hr]; exact ⟨rfl, rfl⟩)
      · refine g_aload_n F dX4_doDrop_42 1 rfl rfl ?_
        refine g_iconst (v := 2) F dX4_doDrop_43 rfl ?_
        refine g_bipush (v := 8) F dX4_doDrop_44 rfl ?_
        refine g_aload_n F dX4_doDrop_46 1 rfl rfl ?_
        refine g_iload_n F dX4_doDrop_47 0 rfl rfl ?_
        refine g_iconst (v := 0) F dX4_doDrop_48 rfl ?_
        refine g_callV F dX4_doDrop_49 mi_X4_bar1 q2373 q2375 qs30 gc_X4 mO_o (ct_X4_bar1 hN (i := 11 + 4 * i) (nto (nadd (nadd (rfl : (11 : Int32) = nI 11) (nmul (rfl : (4 : Int32) = nI 4) hbi)) (rfl : (0 : Int32) = nI 0)) (show ((11 + (4 * i)) + 0) = 11 + 4 * i by omega)) (by omega)) rfl rfl (nle rfl) (nle rfl) (nle rfl) (g_pur ?_) g_purX
        refine g_callV F dX4_doDrop_52 mi_X4_refuse q2407 q2409 qs37 gc_X4 mO_o (ct_X4_refuse hN) rfl rfl (nle rfl) (nle rfl) (nle rfl) (g_pur ?_) g_purX
        have hr : xDrop (av 0) nc (nI cu) = (.inr (2, some (8, av 0 (11 + 4 * i))) : xR) := by grind [xDrop, xDrop1, nI_clamp]
        exact g_iret F dX4_doDrop_55 (by rw [hr]; exact ⟨rfl, rfl⟩)
    · refine g_aload_n F dX4_doDrop_24 1 rfl rfl ?_
      refine g_iconst (v := 2) F dX4_doDrop_25 rfl ?_
      refine g_bipush (v := 7) F dX4_doDrop_26 rfl ?_
      refine g_iload_n F dX4_doDrop_28 2 rfl rfl ?_
      refine g_callV F dX4_doDrop_29 mi_X4_refuse q2407 q2409 qs37 gc_X4 mO_o (ct_X4_refuse hN) rfl rfl (nle rfl) (nle rfl) (nle rfl) (g_pur ?_) g_purX
      have hr : xDrop (av 0) nc (nI cu) = (.inr (2, some (7, nI cu)) : xR) := by grind [xDrop, xDrop1, nI_clamp]
      exact g_iret F dX4_doDrop_32 (by rw [hr]; exact ⟨rfl, rfl⟩)
  · refine g_aload_n F dX4_doDrop_8 0 rfl rfl ?_
    refine g_iconst (v := 1) F dX4_doDrop_9 rfl ?_
    refine g_callV F dX4_doDrop_10 mi_X4_fails q2349 q2351 qs26 gc_X4 mO_o (ct_X4_fails hN) rfl rfl (nle rfl) (nle rfl) (nle rfl) (g_pur ?_) g_purX
    have hr : xDrop (av 0) nc x = (.inr (1, none) : xR) := by grind [xDrop, xDrop1, nI_clamp]
    exact g_iret F dX4_doDrop_13 (by rw [hr]; exact ⟨rfl, rfl⟩)
set_option maxHeartbeats 4000000 in
set_option maxRecDepth 100000 in
theorem ct_X4_doWeights {K : gK} {h : AH} {o : Nat} {L : Nat → Nat} {iv : Nat → Int32} {av : Nat → Nat → Int32} (hN : mN K o L) {x y : Int32} {nb nc nh nq : Nat} (hC : mC (av 0) nb nc nh nq) (hL : mL (av 0) nb nc nq) : gCt K yX4_doWeights w_X4_doWeights 2 44 0 0 (mO K h o L iv av) [.ref o, .int x, .int y] (pR (.int (xRet (xWts (av 0) nb x y))) (mO K h o L (xIv iv (xWts (av 0) nb x y)) (xAv av (xWts (av 0) nb x y)))) := by
  refine g_meth pf_X4_doWeights (nle rfl) (fun p e s m args below meth c F hnm htb => ?_)
  have F : gFix K p s m args meth c cX4_doWeights 5 RX4 (some .int) := F
  refine g_eql (lv' := [(0, .ref o), (1, .int x), (2, .int y)]) rfl ?_
  obtain ⟨h1, hb, h2, hc, h3, hh, h4, hq⟩ := hC
  refine g_aload_n F dX4_doWeights_0 0 rfl rfl ?_
  refine g_iload_n F dX4_doWeights_1 1 rfl rfl ?_
  refine g_callV F dX4_doWeights_2 mi_X4_isBar q2369 q2371 qs29 gc_X4 mO_o (ct_X4_isBar hN h1) rfl rfl (nle rfl) (nle rfl) (nle rfl) (g_pur ?_) g_purX
  refine g_if_ne (tgt := 14) F dX4_doWeights_5 (by decide) (fun c1 => ?_) (fun c1 => ?_)
  · obtain ⟨i, hi, rfl⟩ := xAt_i (by omega) c1
    refine g_iload_n F dX4_doWeights_14 2 rfl rfl ?_
    refine g_if_eq (tgt := 29) F dX4_doWeights_15 (by decide) (fun c2 => ?_) (fun c2 => ?_)
    · refine g_aload_n F dX4_doWeights_29 0 rfl rfl ?_
      refine g_iconst (v := 2) F dX4_doWeights_30 rfl ?_
      refine g_callV F dX4_doWeights_31 mi_X4_fails q2349 q2351 qs26 gc_X4 mO_o (ct_X4_fails hN) rfl rfl (nle rfl) (nle rfl) (nle rfl) (g_pur ?_) g_purX
      have hr : xWts (av 0) nb (nI i) y = (.inr (2, none) : xR) := by grind [xWts, xWts1, nI_clamp]
      exact g_iret F dX4_doWeights_34 (by rw [hr]; exact ⟨rfl, rfl⟩)
    · refine g_iload_n F dX4_doWeights_18 2 rfl rfl ?_
      refine g_bipush (v := (-20)) F dX4_doWeights_19 rfl ?_
      refine g_bipush (v := 20) F dX4_doWeights_21 rfl ?_
      refine g_callS F dX4_doWeights_23 mi_X4_in q2346 q2347 ct_X4_in rfl rfl (nle rfl) (nle rfl) (nle rfl) (g_pur ?_) g_purX
      refine g_if_ne (tgt := 35) F dX4_doWeights_26 (by decide) (fun c3 => ?_) (fun c3 => ?_)
      · refine g_aload_n F dX4_doWeights_35 0 rfl rfl ?_
        refine g_iload_n F dX4_doWeights_36 1 rfl rfl ?_
        refine g_iconst (v := 1) F dX4_doWeights_37 rfl ?_
        refine g_callV F dX4_doWeights_38 mi_X4_bar1 q2373 q2375 qs30 gc_X4 mO_o (ct_X4_bar1 hN (i := 12 + 4 * i) (nto (nadd (nadd (rfl : (11 : Int32) = nI 11) (nmul (rfl : (4 : Int32) = nI 4) rfl)) (rfl : (1 : Int32) = nI 1)) (show ((11 + (4 * i)) + 1) = 12 + 4 * i by omega)) (by omega)) rfl rfl (nle rfl) (nle rfl) (nle rfl) (g_pur ?_) g_purX
        refine g_istore_n (lv' := [(3, .int (av 0 (12 + 4 * i))), (0, .ref o), (1, .int (nI i)), (2, .int y)]) F dX4_doWeights_41 rfl (by decide) rfl ?_
        refine g_bipush (v := 60) F dX4_doWeights_42 rfl ?_
        refine g_aload_n F dX4_doWeights_44 1 rfl rfl ?_
        refine g_callV F dX4_doWeights_45 mi_X4_onBars q2463 q2465 qs44 gc_X4 mO_o (ct_X4_onBars hN h1 hb) rfl rfl (nle rfl) (nle rfl) (nle rfl) (g_pur ?_) g_purX
        refine g_isub F dX4_doWeights_48 ?_
        refine g_istore (lv' := [(4, .int (60 - (mOn (av 0) nb))), (3, .int (av 0 (12 + 4 * i))), (0, .ref o), (1, .int (nI i)), (2, .int y)]) F dX4_doWeights_49 (by decide) rfl ?_
        refine g_aload_n F dX4_doWeights_51 2 rfl rfl ?_
        refine g_iload_n F dX4_doWeights_52 3 rfl rfl ?_
        refine g_iconst (v := 0) F dX4_doWeights_53 rfl ?_
        refine g_callV F dX4_doWeights_54 mi_X4_bar1 q2373 q2375 qs30 gc_X4 mO_o (ct_X4_bar1 hN (i := 11 + 4 * i) (nto (nadd (nadd (rfl : (11 : Int32) = nI 11) (nmul (rfl : (4 : Int32) = nI 4) rfl)) (rfl : (0 : Int32) = nI 0)) (show ((11 + (4 * i)) + 0) = 11 + 4 * i by omega)) (by omega)) rfl rfl (nle rfl) (nle rfl) (nle rfl) (g_pur ?_) g_purX
        refine g_if_le (tgt := 74) F dX4_doWeights_57 (by decide) (fun c4 => ?_) (fun c4 => ?_)
        · refine g_iload_n F dX4_doWeights_74 1 rfl rfl ?_
          refine g_iload_n F dX4_doWeights_75 4 rfl rfl ?_
          refine g_iadd F dX4_doWeights_76 ?_
          refine g_iconst (v := 0) F dX4_doWeights_77 rfl ?_
          refine g_bipush (v := 20) F dX4_doWeights_78 rfl ?_
          refine g_callS F dX4_doWeights_80 mi_X4_in q2346 q2347 ct_X4_in rfl rfl (nle rfl) (nle rfl) (nle rfl) (g_pur ?_) g_purX
          refine g_if_ne (tgt := 95) F dX4_doWeights_83 (by decide) (fun c5 => ?_) (fun c5 => ?_)
          · refine g_iload F dX4_doWeights_95 0 rfl ?_
            refine g_iload_n F dX4_doWeights_97 4 rfl rfl ?_
            refine g_icmp_ge (tgt := 110) F dX4_doWeights_98 (by decide) (fun c6 => ?_) (fun c6 => ?_)
            · refine g_aload_n F dX4_doWeights_110 2 rfl rfl ?_
              refine g_iload_n F dX4_doWeights_111 3 rfl rfl ?_
              refine g_iconst (v := 1) F dX4_doWeights_112 rfl ?_
              refine g_iload_n F dX4_doWeights_113 1 rfl rfl ?_
              refine g_iload_n F dX4_doWeights_114 4 rfl rfl ?_
              refine g_iadd F dX4_doWeights_115 ?_
              refine g_callV F dX4_doWeights_116 mi_X4_setBar q2361 q2363 qs28 gc_X4 mO_o (ct_X4_setBar hN (i := 12 + 4 * i) (nto (nadd (nadd (rfl : (11 : Int32) = nI 11) (nmul (rfl : (4 : Int32) = nI 4) rfl)) (rfl : (1 : Int32) = nI 1)) (show ((11 + (4 * i)) + 1) = 12 + 4 * i by omega)) (by omega)) rfl rfl (nle rfl) (nle rfl) (nle rfl) (g_purv ?_) g_purvX
              refine g_iload_n F dX4_doWeights_119 1 rfl rfl ?_
              refine g_iload_n F dX4_doWeights_120 4 rfl rfl ?_
              refine g_iadd F dX4_doWeights_121 ?_
              have hr : xWts (av 0) nb (nI i) y = (.inl ((av 0 (12 + 4 * i)) + y, upd (av 0) (12 + 4 * i) ((av 0 (12 + 4 * i)) + y)) : xR) := by grind [xWts, xWts1, nI_clamp]
              exact g_iret F dX4_doWeights_122 (by rw [hr]; exact ⟨rfl, rfl⟩)
            · refine g_aload_n F dX4_doWeights_101 2 rfl rfl ?_
              refine g_iconst (v := 3) F dX4_doWeights_102 rfl ?_
              refine g_iconst (v := 1) F dX4_doWeights_103 rfl ?_
              refine g_iload F dX4_doWeights_104 0 rfl ?_
              refine g_callV F dX4_doWeights_106 mi_X4_refuse q2407 q2409 qs37 gc_X4 mO_o (ct_X4_refuse hN) rfl rfl (nle rfl) (nle rfl) (nle rfl) (g_pur ?_) g_purX
              have hr : xWts (av 0) nb (nI i) y = (.inr (3, some (1, 60 - (mOn (av 0) nb))) : xR) := by grind [xWts, xWts1, nI_clamp]
              exact g_iret F dX4_doWeights_109 (by rw [hr]; exact ⟨rfl, rfl⟩)
          · refine g_aload_n F dX4_doWeights_86 2 rfl rfl ?_
            refine g_iconst (v := 3) F dX4_doWeights_87 rfl ?_
            refine g_bipush (v := 9) F dX4_doWeights_88 rfl ?_
            refine g_iload_n F dX4_doWeights_90 1 rfl rfl ?_
            refine g_callV F dX4_doWeights_91 mi_X4_refuse q2407 q2409 qs37 gc_X4 mO_o (ct_X4_refuse hN) rfl rfl (nle rfl) (nle rfl) (nle rfl) (g_pur ?_) g_purX
            have hr : xWts (av 0) nb (nI i) y = (.inr (3, some (9, av 0 (12 + 4 * i))) : xR) := by grind [xWts, xWts1, nI_clamp]
            exact g_iret F dX4_doWeights_94 (by rw [hr]; exact ⟨rfl, rfl⟩)
        · refine g_aload_n F dX4_doWeights_60 2 rfl rfl ?_
          refine g_iconst (v := 3) F dX4_doWeights_61 rfl ?_
          refine g_bipush (v := 8) F dX4_doWeights_62 rfl ?_
          refine g_aload_n F dX4_doWeights_64 2 rfl rfl ?_
          refine g_iload_n F dX4_doWeights_65 3 rfl rfl ?_
          refine g_iconst (v := 0) F dX4_doWeights_66 rfl ?_
          refine g_callV F dX4_doWeights_67 mi_X4_bar1 q2373 q2375 qs30 gc_X4 mO_o (ct_X4_bar1 hN (i := 11 + 4 * i) (nto (nadd (nadd (rfl : (11 : Int32) = nI 11) (nmul (rfl : (4 : Int32) = nI 4) rfl)) (rfl : (0 : Int32) = nI 0)) (show ((11 + (4 * i)) + 0) = 11 + 4 * i by omega)) (by omega)) rfl rfl (nle rfl) (nle rfl) (nle rfl) (g_pur ?_) g_purX
          refine g_callV F dX4_doWeights_70 mi_X4_refuse q2407 q2409 qs37 gc_X4 mO_o (ct_X4_refuse hN) rfl rfl (nle rfl) (nle rfl) (nle rfl) (g_pur ?_) g_purX
          have hr : xWts (av 0) nb (nI i) y = (.inr (3, some (8, av 0 (11 + 4 * i))) : xR) := by grind [xWts, xWts1, nI_clamp]
          exact g_iret F dX4_doWeights_73 (by rw [hr]; exact ⟨rfl, rfl⟩)
      · refine g_aload_n F dX4_doWeights_29 0 rfl rfl ?_
        refine g_iconst (v := 2) F dX4_doWeights_30 rfl ?_
        refine g_callV F dX4_doWeights_31 mi_X4_fails q2349 q2351 qs26 gc_X4 mO_o (ct_X4_fails hN) rfl rfl (nle rfl) (nle rfl) (nle rfl) (g_pur ?_) g_purX
        have hr : xWts (av 0) nb (nI i) y = (.inr (2, none) : xR) := by grind [xWts, xWts1, nI_clamp]
        exact g_iret F dX4_doWeights_34 (by rw [hr]; exact ⟨rfl, rfl⟩)
  · refine g_aload_n F dX4_doWeights_8 0 rfl rfl ?_
    refine g_iconst (v := 1) F dX4_doWeights_9 rfl ?_
    refine g_callV F dX4_doWeights_10 mi_X4_fails q2349 q2351 qs26 gc_X4 mO_o (ct_X4_fails hN) rfl rfl (nle rfl) (nle rfl) (nle rfl) (g_pur ?_) g_purX
    have hr : xWts (av 0) nb x y = (.inr (1, none) : xR) := by grind [xWts, xWts1, nI_clamp]
    exact g_iret F dX4_doWeights_13 (by rw [hr]; exact ⟨rfl, rfl⟩)
set_option maxHeartbeats 4000000 in
set_option maxRecDepth 100000 in
theorem ct_X4_doDoor {K : gK} {h : AH} {o : Nat} {L : Nat → Nat} {iv : Nat → Int32} {av : Nat → Nat → Int32} (hN : mN K o L) {x y : Int32} {nb nc nh nq : Nat} (hC : mC (av 0) nb nc nh nq) (hL : mL (av 0) nb nc nq) : gCt K yX4_doDoor w_X4_doDoor 1 22 0 0 (mO K h o L iv av) [.ref o, .int x, .int y] (pR (.int (xRet (xDoor (av 0) x (if y = 0 then 0 else 1)))) (mO K h o L (xIv iv (xDoor (av 0) x (if y = 0 then 0 else 1))) (xAv av (xDoor (av 0) x (if y = 0 then 0 else 1))))) := by
  refine g_meth pf_X4_doDoor (nle rfl) (fun p e s m args below meth c F hnm htb => ?_)
  have F : gFix K p s m args meth c cX4_doDoor 3 RX4 (some .int) := F
  refine g_eql (lv' := [(0, .ref o), (1, .int x), (2, .int y)]) rfl ?_
  obtain ⟨h1, hb, h2, hc, h3, hh, h4, hq⟩ := hC
  refine g_iload_n F dX4_doDoor_0 1 rfl rfl ?_
  refine g_iconst (v := 0) F dX4_doDoor_1 rfl ?_
  refine g_iconst (v := 3) F dX4_doDoor_2 rfl ?_
  refine g_callS F dX4_doDoor_3 mi_X4_in q2346 q2347 ct_X4_in rfl rfl (nle rfl) (nle rfl) (nle rfl) (g_pur ?_) g_purX
  refine g_if_ne (tgt := 15) F dX4_doDoor_6 (by decide) (fun c1 => ?_) (fun c1 => ?_)
  · obtain ⟨i, hi, rfl⟩ := xAt_i (n := 4) (by omega) c1
    refine g_aload_n F dX4_doDoor_15 0 rfl rfl ?_
    refine gf_X4_9_X4 (v := .ref (L 0)) F dX4_doDoor_16 mO_o rfl ?_
    refine g_bipush (v := 79) F dX4_doDoor_19 rfl ?_
    refine g_iload_n F dX4_doDoor_21 1 rfl rfl ?_
    refine g_iadd F dX4_doDoor_22 ?_
    refine g_iload_n F dX4_doDoor_23 2 rfl rfl ?_
    refine g_if_eq (tgt := 31) F dX4_doDoor_24 (by decide) (fun c2 => ?_) (fun c2 => ?_)
    · refine g_iconst (v := 0) F dX4_doDoor_31 rfl ?_
      refine g_miast hN 0 (n := 131) (i := 79 + i) F (by decide) (by decide) rfl (mO_0 hN) (nadd (rfl : (79 : Int32) = nI 79) rfl) (show (79 + i) = 79 + i by omega) (by omega) (by decide) dX4_doDoor_32 ?_
      refine g_aload_n F dX4_doDoor_33 0 rfl rfl ?_
      refine g_callV F dX4_doDoor_34 mi_X4_openDoors q2508 q2510 qs48 gc_X4 mO_o (ct_X4_openDoors hN) rfl rfl (nle rfl) (nle rfl) (nle rfl) (g_pur ?_) g_purX
      have hr : xDoor (av 0) (nI i) (if y = 0 then 0 else 1) = (.inl (mDoors (upd (av 0) (79 + i) 0), upd (av 0) (79 + i) 0) : xR) := by grind [xDoor, nI_clamp]
      exact g_iret F dX4_doDoor_37 (by rw [hr]; exact ⟨rfl, rfl⟩)
    · refine g_iconst (v := 1) F dX4_doDoor_27 rfl ?_
      refine g_goto (tgt := 32) F dX4_doDoor_28 (by decide) ?_
      refine g_miast hN 0 (n := 131) (i := 79 + i) F (by decide) (by decide) rfl (mO_0 hN) (nadd (rfl : (79 : Int32) = nI 79) rfl) (show (79 + i) = 79 + i by omega) (by omega) (by decide) dX4_doDoor_32 ?_
      refine g_aload_n F dX4_doDoor_33 0 rfl rfl ?_
      refine g_callV F dX4_doDoor_34 mi_X4_openDoors q2508 q2510 qs48 gc_X4 mO_o (ct_X4_openDoors hN) rfl rfl (nle rfl) (nle rfl) (nle rfl) (g_pur ?_) g_purX
      have hr : xDoor (av 0) (nI i) (if y = 0 then 0 else 1) = (.inl (mDoors (upd (av 0) (79 + i) 1), upd (av 0) (79 + i) 1) : xR) := by grind [xDoor, nI_clamp]
      exact g_iret F dX4_doDoor_37 (by rw [hr]; exact ⟨rfl, rfl⟩)
  · refine g_aload_n F dX4_doDoor_9 0 rfl rfl ?_
    refine g_iconst (v := 1) F dX4_doDoor_10 rfl ?_
    refine g_callV F dX4_doDoor_11 mi_X4_fails q2349 q2351 qs26 gc_X4 mO_o (ct_X4_fails hN) rfl rfl (nle rfl) (nle rfl) (nle rfl) (g_pur ?_) g_purX
    have hr : xDoor (av 0) x (if y = 0 then 0 else 1) = (.inr (1, none) : xR) := by grind [xDoor, nI_clamp]
    exact g_iret F dX4_doDoor_14 (by rw [hr]; exact ⟨rfl, rfl⟩)
set_option maxHeartbeats 4000000 in
set_option maxRecDepth 100000 in
theorem ct_X4_flies {K : gK} {h : AH} {o : Nat} {L : Nat → Nat} {iv : Nat → Int32} {av : Nat → Nat → Int32} (hN : mN K o L) {i : Nat} {y : Int32} (hi : i < 8) : gCt K yX4_flies w_X4_flies 2 44 0 0 (mO K h o L iv av) [.ref o, .int (nI i), .int y] (pR (.int (mLoud (av 0) i y)) (mO K h o L iv (mu av 0 (xLift (av 0) i y)))) := by
  refine g_meth pf_X4_flies (nle rfl) (fun p e s m args below meth c F hnm htb => ?_)
  have F : gFix K p s m args meth c cX4_flies 5 RX4 (some .int) := F
  refine g_eql (lv' := [(0, .ref o), (1, .int (nI i)), (2, .int y)]) rfl ?_
  refine g_aload_n F dX4_flies_0 0 rfl rfl ?_
  refine g_iload_n F dX4_flies_1 1 rfl rfl ?_
  refine g_iload_n F dX4_flies_2 2 rfl rfl ?_
  refine g_callV F dX4_flies_3 mi_X4_loud q2516 q2518 qs49 gc_X4 mO_o (ct_X4_loud hN (i := i) (by omega)) rfl rfl (nle rfl) (nle rfl) (nle rfl) (g_pur ?_) g_purX
  refine g_istore_n (lv' := [(3, .int (mLoud (av 0) i y)), (0, .ref o), (1, .int (nI i)), (2, .int y)]) F dX4_flies_6 rfl (by decide) rfl ?_
  refine g_iload_n F dX4_flies_7 3 rfl rfl ?_
  refine g_aload_n F dX4_flies_8 1 rfl rfl ?_
  refine g_iload_n F dX4_flies_9 2 rfl rfl ?_
  refine g_iconst (v := 0) F dX4_flies_10 rfl ?_
  refine g_callV F dX4_flies_11 mi_X4_bar1 q2373 q2375 qs30 gc_X4 mO_o (ct_X4_bar1 hN (i := 11 + 4 * i) (nto (nadd (nadd (rfl : (11 : Int32) = nI 11) (nmul (rfl : (4 : Int32) = nI 4) rfl)) (rfl : (0 : Int32) = nI 0)) (show ((11 + (4 * i)) + 0) = 11 + 4 * i by omega)) (by omega)) rfl rfl (nle rfl) (nle rfl) (nle rfl) (g_pur ?_) g_purX
  refine g_isub F dX4_flies_14 ?_
  refine g_callS F dX4_flies_15 mi_J16_abs q2393 q1130 ct_J16_abs rfl rfl (nle rfl) (nle rfl) (nle rfl) (g_pur ?_) g_purX
  refine g_istore (lv' := [(4, .int (mAbs (y - (av 0 (11 + 4 * i))))), (3, .int (mLoud (av 0) i y)), (0, .ref o), (1, .int (nI i)), (2, .int y)]) F dX4_flies_18 (by decide) rfl ?_
  refine g_aload_n F dX4_flies_20 2 rfl rfl ?_
  refine g_iload_n F dX4_flies_21 3 rfl rfl ?_
  refine g_iconst (v := 0) F dX4_flies_22 rfl ?_
  refine g_iload_n F dX4_flies_23 4 rfl rfl ?_
  refine g_callV F dX4_flies_24 mi_X4_setBar q2361 q2363 qs28 gc_X4 mO_o (ct_X4_setBar hN (i := 11 + 4 * i) (nto (nadd (nadd (rfl : (11 : Int32) = nI 11) (nmul (rfl : (4 : Int32) = nI 4) rfl)) (rfl : (0 : Int32) = nI 0)) (show ((11 + (4 * i)) + 0) = 11 + 4 * i by omega)) (by omega)) rfl rfl (nle rfl) (nle rfl) (nle rfl) (g_purv ?_) g_purvX
  refine g_aload_n F dX4_flies_27 2 rfl rfl ?_
  refine g_iload_n F dX4_flies_28 3 rfl rfl ?_
  refine g_iconst (v := 3) F dX4_flies_29 rfl ?_
  refine g_aload_n F dX4_flies_30 2 rfl rfl ?_
  refine g_iload_n F dX4_flies_31 3 rfl rfl ?_
  refine g_iconst (v := 3) F dX4_flies_32 rfl ?_
  refine g_callV F dX4_flies_33 mi_X4_bar1 q2373 q2375 qs30 gc_X4 mO_o (ct_X4_bar1 hN (i := 14 + 4 * i) (nto (nadd (nadd (rfl : (11 : Int32) = nI 11) (nmul (rfl : (4 : Int32) = nI 4) rfl)) (rfl : (3 : Int32) = nI 3)) (show ((11 + (4 * i)) + 3) = 14 + 4 * i by omega)) (by omega)) rfl rfl (nle rfl) (nle rfl) (nle rfl) (g_pur ?_) g_purX
  refine g_iload F dX4_flies_36 0 rfl ?_
  refine g_iadd F dX4_flies_38 ?_
  refine g_callV F dX4_flies_39 mi_X4_setBar q2361 q2363 qs28 gc_X4 mO_o (ct_X4_setBar hN (i := 14 + 4 * i) (nto (nadd (nadd (rfl : (11 : Int32) = nI 11) (nmul (rfl : (4 : Int32) = nI 4) rfl)) (rfl : (3 : Int32) = nI 3)) (show ((11 + (4 * i)) + 3) = 14 + 4 * i by omega)) (by omega)) rfl rfl (nle rfl) (nle rfl) (nle rfl) (g_purv ?_) g_purvX
  refine g_eqh (h' := (mO K h o L iv (mu av 0 (upd (upd (av 0) (11 + 4 * i) y) (14 + 4 * i) (((upd (av 0) (11 + 4 * i) y) (14 + 4 * i)) + (mAbs (y - (av 0 (11 + 4 * i))))))))) (by simp only [mu_s, mu_mu]; try rfl) ?_
  refine g_aload_n F dX4_flies_42 2 rfl rfl ?_
  refine gf_X4_9_X4 (v := .ref (L 0)) F dX4_flies_43 mO_o rfl ?_
  refine g_bipush (v := 9) F dX4_flies_46 rfl ?_
  refine g_dup2 F dX4_flies_48 rfl rfl ?_
  refine g_ialdN (i := 9) F (mO_0 hN) (rfl : (9 : Int32) = nI 9) (show 9 = 9 by omega) (by omega) (by decide) dX4_flies_49 ?_
  refine g_iload F dX4_flies_50 0 rfl ?_
  refine g_iadd F dX4_flies_52 ?_
  refine g_miast hN 0 (n := 131) (i := 9) F (by decide) (by decide) rfl (mO_0 hN) (rfl : (9 : Int32) = nI 9) (show 9 = 9 by omega) (by omega) (by decide) dX4_flies_53 ?_
  refine g_eqh (h' := (mO K h o L iv (mu av 0 (upd (upd (upd (av 0) (11 + 4 * i) y) (14 + 4 * i) (((upd (av 0) (11 + 4 * i) y) (14 + 4 * i)) + (mAbs (y - (av 0 (11 + 4 * i)))))) 9 (((upd (upd (av 0) (11 + 4 * i) y) (14 + 4 * i) (((upd (av 0) (11 + 4 * i) y) (14 + 4 * i)) + (mAbs (y - (av 0 (11 + 4 * i)))))) 9) + (mAbs (y - (av 0 (11 + 4 * i))))))))) (by simp only [mu_s, mu_mu]; try rfl) ?_
  refine g_aload_n F dX4_flies_54 2 rfl rfl ?_
  refine gf_X4_9_X4 (v := .ref (L 0)) F dX4_flies_55 mO_o rfl ?_
  refine g_bipush (v := 10) F dX4_flies_58 rfl ?_
  refine g_dup2 F dX4_flies_60 rfl rfl ?_
  refine g_ialdN (i := 10) F (mO_0 hN) (rfl : (10 : Int32) = nI 10) (show 10 = 10 by omega) (by omega) (by decide) dX4_flies_61 ?_
  refine g_iconst (v := 1) F dX4_flies_62 rfl ?_
  refine g_iadd F dX4_flies_63 ?_
  refine g_miast hN 0 (n := 131) (i := 10) F (by decide) (by decide) rfl (mO_0 hN) (rfl : (10 : Int32) = nI 10) (show 10 = 10 by omega) (by omega) (by decide) dX4_flies_64 ?_
  refine g_eqh (h' := (mO K h o L iv (mu av 0 (upd (upd (upd (upd (av 0) (11 + 4 * i) y) (14 + 4 * i) (((upd (av 0) (11 + 4 * i) y) (14 + 4 * i)) + (mAbs (y - (av 0 (11 + 4 * i)))))) 9 (((upd (upd (av 0) (11 + 4 * i) y) (14 + 4 * i) (((upd (av 0) (11 + 4 * i) y) (14 + 4 * i)) + (mAbs (y - (av 0 (11 + 4 * i)))))) 9) + (mAbs (y - (av 0 (11 + 4 * i)))))) 10 (((upd (upd (upd (av 0) (11 + 4 * i) y) (14 + 4 * i) (((upd (av 0) (11 + 4 * i) y) (14 + 4 * i)) + (mAbs (y - (av 0 (11 + 4 * i)))))) 9 (((upd (upd (av 0) (11 + 4 * i) y) (14 + 4 * i) (((upd (av 0) (11 + 4 * i) y) (14 + 4 * i)) + (mAbs (y - (av 0 (11 + 4 * i)))))) 9) + (mAbs (y - (av 0 (11 + 4 * i)))))) 10) + 1))))) (by simp only [mu_s, mu_mu]; try rfl) ?_
  refine g_iload_n F dX4_flies_65 1 rfl rfl ?_
  have hf : upd (upd (upd (upd (av 0) (11 + 4 * i) y) (14 + 4 * i) (((upd (av 0) (11 + 4 * i) y) (14 + 4 * i)) + (mAbs (y - (av 0 (11 + 4 * i)))))) 9 (((upd (upd (av 0) (11 + 4 * i) y) (14 + 4 * i) (((upd (av 0) (11 + 4 * i) y) (14 + 4 * i)) + (mAbs (y - (av 0 (11 + 4 * i)))))) 9) + (mAbs (y - (av 0 (11 + 4 * i)))))) 10 (((upd (upd (upd (av 0) (11 + 4 * i) y) (14 + 4 * i) (((upd (av 0) (11 + 4 * i) y) (14 + 4 * i)) + (mAbs (y - (av 0 (11 + 4 * i)))))) 9 (((upd (upd (av 0) (11 + 4 * i) y) (14 + 4 * i) (((upd (av 0) (11 + 4 * i) y) (14 + 4 * i)) + (mAbs (y - (av 0 (11 + 4 * i)))))) 9) + (mAbs (y - (av 0 (11 + 4 * i)))))) 10) + 1) = xLift (av 0) i y := by simp (disch := omega) only [xLift, pk_un, mu_s]
  exact g_iret F dX4_flies_66 (⟨rfl, by rw [hf]⟩)
theorem ct_X4_isRefused0 {K : gK} {h : AH} {o : Nat} {L : Nat → Nat} {iv : Nat → Int32} {av : Nat → Nat → Int32} (hN : mN K o L) {nc nh i : Nat} (h2 : av 0 2 = nI nc) (hc : nc ≤ 12) (h3 : av 0 3 = nI nh) (hh : nh ≤ 6) (hi : i < 8) {y : Int32} (hw : mWhy (av 0) nc nh i = 0) : gCt K yX4_isRefused w_X4_isRefused 4 86 0 0 (mO K h o L iv av) [.ref o, .int (nI i), .int y] (pR (.int 0) (mO K h o L iv av)) := by
  have t := ct_X4_isRefused (h := h) (iv := iv) hN h2 hc h3 hh hi (y := y)
  rw [if_pos hw, if_pos hw] at t
  exact t
theorem ct_X4_isRefused1 {K : gK} {h : AH} {o : Nat} {L : Nat → Nat} {iv : Nat → Int32} {av : Nat → Nat → Int32} (hN : mN K o L) {nc nh i : Nat} (h2 : av 0 2 = nI nc) (hc : nc ≤ 12) (h3 : av 0 3 = nI nh) (hh : nh ≤ 6) (hi : i < 8) {y : Int32} (hw : ¬ mWhy (av 0) nc nh i = 0) : gCt K yX4_isRefused w_X4_isRefused 4 86 0 0 (mO K h o L iv av) [.ref o, .int (nI i), .int y] (pR (.int 1) (mO K h o L (upd (upd (upd iv 7 y) 8 (mWhy (av 0) nc nh i)) 9 (mDet (av 0) nc nh i)) av)) := by
  have t := ct_X4_isRefused (h := h) (iv := iv) hN h2 hc h3 hh hi (y := y)
  rw [if_neg hw, if_neg hw] at t
  exact t

set_option maxHeartbeats 4000000 in
set_option maxRecDepth 100000 in
theorem ct_X4_doFly {K : gK} {h : AH} {o : Nat} {L : Nat → Nat} {iv : Nat → Int32} {av : Nat → Nat → Int32} (hN : mN K o L) {x y : Int32} {nb nc nh nq : Nat} (hC : mC (av 0) nb nc nh nq) (hL : mL (av 0) nb nc nq) : gCt K yX4_doFly w_X4_doFly 5 110 0 0 (mO K h o L iv av) [.ref o, .int x, .int y] (pR (.int (xRet (xFly (av 0) nb nc nh x y))) (mO K h o L (xIv iv (xFly (av 0) nb nc nh x y)) (xAv av (xFly (av 0) nb nc nh x y)))) := by
  refine g_meth pf_X4_doFly (nle rfl) (fun p e s m args below meth c F hnm htb => ?_)
  have F : gFix K p s m args meth c cX4_doFly 3 RX4 (some .int) := F
  refine g_eql (lv' := [(0, .ref o), (1, .int x), (2, .int y)]) rfl ?_
  obtain ⟨h1, hb, h2, hc, h3, hh, h4, hq⟩ := hC
  refine g_aload_n F dX4_doFly_0 0 rfl rfl ?_
  refine g_iload_n F dX4_doFly_1 1 rfl rfl ?_
  refine g_callV F dX4_doFly_2 mi_X4_isBar q2369 q2371 qs29 gc_X4 mO_o (ct_X4_isBar hN h1) rfl rfl (nle rfl) (nle rfl) (nle rfl) (g_pur ?_) g_purX
  refine g_if_ne (tgt := 14) F dX4_doFly_5 (by decide) (fun c1 => ?_) (fun c1 => ?_)
  · obtain ⟨i, hi, rfl⟩ := xAt_i (by omega) c1
    refine g_iload_n F dX4_doFly_14 2 rfl rfl ?_
    refine g_iconst (v := 0) F dX4_doFly_15 rfl ?_
    refine g_bipush (v := 20) F dX4_doFly_16 rfl ?_
    refine g_callS F dX4_doFly_18 mi_X4_in q2346 q2347 ct_X4_in rfl rfl (nle rfl) (nle rfl) (nle rfl) (g_pur ?_) g_purX
    refine g_if_ne (tgt := 30) F dX4_doFly_21 (by decide) (fun c2 => ?_) (fun c2 => ?_)
    · rcases Classical.em (mWhy (av 0) nc nh i = 0) with hw | hw
      · refine g_aload_n F dX4_doFly_30 0 rfl rfl ?_
        refine g_iload_n F dX4_doFly_31 1 rfl rfl ?_
        refine g_iconst (v := 3) F dX4_doFly_32 rfl ?_
        refine g_callV F dX4_doFly_33 mi_X4_isRefused q2528 q2530 qs51 gc_X4 mO_o (ct_X4_isRefused0 hN (i := i) h2 hc h3 hh (by omega) hw) rfl rfl (nle rfl) (nle rfl) (nle rfl) (g_pur ?_) g_purX
        refine g_if_eq (tgt := 43) F dX4_doFly_36 (by decide) (fun c3 => ?_) (fun c3 => absurd c3 (by decide))
        refine g_aload_n F dX4_doFly_43 0 rfl rfl ?_
        refine g_iload_n F dX4_doFly_44 1 rfl rfl ?_
        refine g_iload_n F dX4_doFly_45 2 rfl rfl ?_
        refine g_callV F dX4_doFly_46 mi_X4_flies q2536 q2538 qs53 gc_X4 mO_o (ct_X4_flies hN (i := i) (by omega)) rfl rfl (nle rfl) (nle rfl) (nle rfl) (g_pur ?_) g_purX
        have hr : xFly (av 0) nb nc nh (nI i) y = (.inl (mLoud (av 0) i y, xLift (av 0) i y) : xR) := by grind [xFly, xFly1, nI_clamp]
        exact g_iret F dX4_doFly_49 (by rw [hr]; exact ⟨rfl, rfl⟩)
      · refine g_aload_n F dX4_doFly_30 0 rfl rfl ?_
        refine g_iload_n F dX4_doFly_31 1 rfl rfl ?_
        refine g_iconst (v := 3) F dX4_doFly_32 rfl ?_
        refine g_callV F dX4_doFly_33 mi_X4_isRefused q2528 q2530 qs51 gc_X4 mO_o (ct_X4_isRefused1 hN (i := i) h2 hc h3 hh (by omega) hw) rfl rfl (nle rfl) (nle rfl) (nle rfl) (g_pur ?_) g_purX
        refine g_if_eq (tgt := 43) F dX4_doFly_36 (by decide) (fun c4 => absurd c4 (by decide)) (fun c4 => ?_)
        refine g_iconst (v := 0) F dX4_doFly_39 rfl ?_
        refine g_goto (tgt := 49) F dX4_doFly_40 (by decide) ?_
        have hr : xFly (av 0) nb nc nh (nI i) y = (.inr (3, some (mWhy (av 0) nc nh i, mDet (av 0) nc nh i)) : xR) := by grind [xFly, xFly1, nI_clamp]
        exact g_iret F dX4_doFly_49 (by rw [hr]; exact ⟨rfl, rfl⟩)
    · refine g_aload_n F dX4_doFly_24 0 rfl rfl ?_
      refine g_iconst (v := 2) F dX4_doFly_25 rfl ?_
      refine g_callV F dX4_doFly_26 mi_X4_fails q2349 q2351 qs26 gc_X4 mO_o (ct_X4_fails hN) rfl rfl (nle rfl) (nle rfl) (nle rfl) (g_pur ?_) g_purX
      have hr : xFly (av 0) nb nc nh (nI i) y = (.inr (2, none) : xR) := by grind [xFly, xFly1, nI_clamp]
      exact g_iret F dX4_doFly_29 (by rw [hr]; exact ⟨rfl, rfl⟩)
  · refine g_aload_n F dX4_doFly_8 0 rfl rfl ?_
    refine g_iconst (v := 1) F dX4_doFly_9 rfl ?_
    refine g_callV F dX4_doFly_10 mi_X4_fails q2349 q2351 qs26 gc_X4 mO_o (ct_X4_fails hN) rfl rfl (nle rfl) (nle rfl) (nle rfl) (g_pur ?_) g_purX
    have hr : xFly (av 0) nb nc nh x y = (.inr (1, none) : xR) := by grind [xFly, xFly1, nI_clamp]
    exact g_iret F dX4_doFly_13 (by rw [hr]; exact ⟨rfl, rfl⟩)
set_option maxHeartbeats 4000000 in
set_option maxRecDepth 100000 in
theorem ct_X4_next {K : gK} {h : AH} {o : Nat} {L : Nat → Nat} {iv : Nat → Int32} {av : Nat → Nat → Int32} (hN : mN K o L) {nq : Nat} (h4 : av 0 4 = nI nq) (hq : nq ≤ 12) : gCt K yX4_next w_X4_next 1 22 0 0 (mO K h o L iv av) [.ref o] (pR (.int (xNextI (xNext (av 0) nq))) (mO K h o L iv av)) := by
  refine g_meth pf_X4_next (nle rfl) (fun p e s m args below meth c F hnm htb => ?_)
  have F : gFix K p s m args meth c cX4_next 2 RX4 (some .int) := F
  refine g_eql (lv' := [(0, .ref o)]) rfl ?_
  refine g_iconst (v := 0) F dX4_next_0 rfl ?_
  refine g_istore_n (lv' := [(1, .int 0), (0, .ref o)]) F dX4_next_1 rfl (by decide) rfl ?_
  refine g_lv (lv' := [(0, .ref o), (1, .int 0)]) [1, 0] rfl ?_
  have lp : ∀ k, k ≤ nq → xNext (av 0) nq = xNx (av 0) (av 0 7) (nq - k) k → G K p e s m args below meth c (gRm 1 22 0 0) 2 (pR (.int (xNextI (xNext (av 0) nq))) (mO K h o L iv av)) (mO K h o L iv av) 0 0 2 [(0, .ref o), (1, .int (nI k))] [] := by
    refine gloop nq (fun k hk ih => ?_)
    intro hinv
    refine g_iload_n F dX4_next_2 1 rfl rfl ?_
    refine g_aload_n F dX4_next_3 0 rfl rfl ?_
    refine gf_X4_9_X4 (v := .ref (L 0)) F dX4_next_4 mO_o rfl ?_
    refine g_iconst (v := 4) F dX4_next_7 rfl ?_
    refine g_ialdN (i := 4) F (mO_0 hN) (rfl : (4 : Int32) = nI 4) (show 4 = 4 by omega) (by omega) (by decide) dX4_next_8 ?_
    refine g_eqs (st' := [.int (nI nq), .int (nI k)]) (by rw [h4]) ?_
    refine g_icmp_ge (tgt := 36) F dX4_next_9 (by decide) (fun c1 => ?_) (fun c1 => ?_)
    · have hkN : k = nq := gexit (by omega) hk c1
      rw [hkN, Nat.sub_self] at hinv
      refine g_iconst (v := (-1)) F dX4_next_36 rfl ?_
      exact g_iret F dX4_next_37 (⟨by rw [hinv]; rfl, rfl⟩)
    · have hlt : k < nq := gbody (by omega) hk c1
      refine g_aload_n F dX4_next_12 0 rfl rfl ?_
      refine g_iload_n F dX4_next_13 1 rfl rfl ?_
      refine g_iconst (v := 0) F dX4_next_14 rfl ?_
      refine g_callV F dX4_next_15 mi_X4_cue1 q2548 q2550 qs54 gc_X4 mO_o (ct_X4_cue1 hN (i := 83 + 4 * k) (nto (nadd (nadd (rfl : (83 : Int32) = nI 83) (nmul (rfl : (4 : Int32) = nI 4) rfl)) (rfl : (0 : Int32) = nI 0)) (show ((83 + (4 * k)) + 0) = 83 + 4 * k by omega)) (by omega)) rfl rfl (nle rfl) (nle rfl) (nle rfl) (g_pur ?_) g_purX
      refine g_aload_n F dX4_next_18 0 rfl rfl ?_
      refine gf_X4_9_X4 (v := .ref (L 0)) F dX4_next_19 mO_o rfl ?_
      refine g_bipush (v := 7) F dX4_next_22 rfl ?_
      refine g_ialdN (i := 7) F (mO_0 hN) (rfl : (7 : Int32) = nI 7) (show 7 = 7 by omega) (by omega) (by decide) dX4_next_24 ?_
      refine g_icmp_le (tgt := 30) F dX4_next_25 (by decide) (fun c2 => ?_) (fun c2 => ?_)
      · rw [xNx_f hlt (Int32.not_lt.mpr c2)] at hinv
        refine g_iinc (lv' := [(1, .int ((nI k) + 1)), (0, .ref o)]) (v := (nI k) + 1) F dX4_next_30 (k := 1) rfl rfl (by decide) rfl ?_
        refine g_goto (tgt := 2) F dX4_next_33 (by decide) ?_
        refine g_lv (lv' := [(0, .ref o), (1, .int ((nI k) + 1))]) [1, 0] rfl ?_
        exact g_eql (lv' := [(0, .ref o), (1, .int (nI (k + 1)))]) (by simp only [nI_1]) (ih hlt (hinv))
      · rw [xNx_t hlt (Int32.not_le.mp c2)] at hinv
        refine g_iload_n F dX4_next_28 1 rfl rfl ?_
        exact g_iret F dX4_next_29 (⟨by rw [hinv]; rfl, rfl⟩)
  exact lp 0 (Nat.zero_le _) (rfl)
set_option maxHeartbeats 4000000 in
set_option maxRecDepth 100000 in
theorem ct_X4_doGo {K : gK} {h : AH} {o : Nat} {L : Nat → Nat} {iv : Nat → Int32} {av : Nat → Nat → Int32} (hN : mN K o L)  {nb nc nh nq : Nat} (hC : mC (av 0) nb nc nh nq) (hL : mL (av 0) nb nc nq) : gCt K yX4_doGo w_X4_doGo 5 110 0 0 (mO K h o L iv av) [.ref o] (pR (.int (xRet (xGo (av 0) nc nh nq))) (mO K h o L (xIv iv (xGo (av 0) nc nh nq)) (xAv av (xGo (av 0) nc nh nq)))) := by
  refine g_meth pf_X4_doGo (nle rfl) (fun p e s m args below meth c F hnm htb => ?_)
  have F : gFix K p s m args meth c cX4_doGo 5 RX4 (some .int) := F
  refine g_eql (lv' := [(0, .ref o)]) rfl ?_
  obtain ⟨h1, hb, h2, hc, h3, hh, h4, hq⟩ := hC
  refine g_aload_n F dX4_doGo_0 0 rfl rfl ?_
  refine g_callV F dX4_doGo_1 mi_X4_next q2560 q2562 qs55 gc_X4 mO_o (ct_X4_next hN h4 hq) rfl rfl (nle rfl) (nle rfl) (nle rfl) (g_pur ?_) g_purX
  rcases hnx : xNext (av 0) nq with _ | k
  · refine g_eqs (st' := [.int (-1)]) rfl ?_
    refine g_istore_n (lv' := [(1, .int (-1)), (0, .ref o)]) F dX4_doGo_4 rfl (by decide) rfl ?_
    refine g_iload_n F dX4_doGo_5 0 rfl rfl ?_
    refine g_if_ge (tgt := 23) F dX4_doGo_6 (by decide) (fun c1 => absurd c1 (by decide)) (fun c1 => ?_)
    refine g_aload_n F dX4_doGo_9 1 rfl rfl ?_
    refine g_iconst (v := 1) F dX4_doGo_10 rfl ?_
    refine g_bipush (v := 10) F dX4_doGo_11 rfl ?_
    refine g_aload_n F dX4_doGo_13 1 rfl rfl ?_
    refine gf_X4_9_X4 (v := .ref (L 0)) F dX4_doGo_14 mO_o rfl ?_
    refine g_iconst (v := 4) F dX4_doGo_17 rfl ?_
    refine g_ialdN (i := 4) F (mO_0 hN) (rfl : (4 : Int32) = nI 4) (show 4 = 4 by omega) (by omega) (by decide) dX4_doGo_18 ?_
    refine g_callV F dX4_doGo_19 mi_X4_refuse q2407 q2409 qs37 gc_X4 mO_o (ct_X4_refuse hN) rfl rfl (nle rfl) (nle rfl) (nle rfl) (g_pur ?_) g_purX
    have hr : xGo (av 0) nc nh nq = (.inr (1, some (10, av 0 4)) : xR) := by (simp only [xGo, hnx])
    exact g_iret F dX4_doGo_22 (by rw [hr]; exact ⟨rfl, rfl⟩)
  · obtain ⟨-, hkq, hkz⟩ := xNx_lt _ _ _ hnx
    have hkq : k < nq := by omega
    obtain ⟨i, hi, hbi⟩ := hL.2 k hkq
    refine g_eqs (st' := [.int (nI k)]) rfl ?_
    refine g_istore_n (lv' := [(1, .int (nI k)), (0, .ref o)]) F dX4_doGo_4 rfl (by decide) rfl ?_
    refine g_iload_n F dX4_doGo_5 0 rfl rfl ?_
    refine g_if_ge (tgt := 23) F dX4_doGo_6 (by decide) (fun c2 => ?_) (fun c2 => absurd c2 (absurd (nI_pos' (n := k) (by omega)) c2))
    refine g_aload_n F dX4_doGo_23 1 rfl rfl ?_
    refine g_iload_n F dX4_doGo_24 0 rfl rfl ?_
    refine g_iconst (v := 1) F dX4_doGo_25 rfl ?_
    refine g_callV F dX4_doGo_26 mi_X4_cue1 q2548 q2550 qs54 gc_X4 mO_o (ct_X4_cue1 hN (i := 84 + 4 * k) (nto (nadd (nadd (rfl : (83 : Int32) = nI 83) (nmul (rfl : (4 : Int32) = nI 4) rfl)) (rfl : (1 : Int32) = nI 1)) (show ((83 + (4 * k)) + 1) = 84 + 4 * k by omega)) (by omega)) rfl rfl (nle rfl) (nle rfl) (nle rfl) (g_pur ?_) g_purX
    refine g_istore_n (lv' := [(2, .int (av 0 (84 + 4 * k))), (1, .int (nI k)), (0, .ref o)]) F dX4_doGo_29 rfl (by decide) rfl ?_
    refine g_aload_n F dX4_doGo_30 2 rfl rfl ?_
    refine g_iload_n F dX4_doGo_31 1 rfl rfl ?_
    refine g_iconst (v := 2) F dX4_doGo_32 rfl ?_
    refine g_callV F dX4_doGo_33 mi_X4_cue1 q2548 q2550 qs54 gc_X4 mO_o (ct_X4_cue1 hN (i := 85 + 4 * k) (nto (nadd (nadd (rfl : (83 : Int32) = nI 83) (nmul (rfl : (4 : Int32) = nI 4) rfl)) (rfl : (2 : Int32) = nI 2)) (show ((83 + (4 * k)) + 2) = 85 + 4 * k by omega)) (by omega)) rfl rfl (nle rfl) (nle rfl) (nle rfl) (g_pur ?_) g_purX
    refine g_istore_n (lv' := [(3, .int (av 0 (85 + 4 * k))), (2, .int (av 0 (84 + 4 * k))), (1, .int (nI k)), (0, .ref o)]) F dX4_doGo_36 rfl (by decide) rfl ?_
    refine g_eql (lv' := [(3, .int (av 0 (85 + 4 * k))), (2, .int (nI i)), (1, .int (nI k)), (0, .ref o)]) (by rw [hbi]) ?_
    rcases Classical.em (mWhy (av 0) nc nh i = 0) with hw | hw
    · refine g_aload_n F dX4_doGo_37 3 rfl rfl ?_
      refine g_iload_n F dX4_doGo_38 1 rfl rfl ?_
      refine g_iconst (v := 1) F dX4_doGo_39 rfl ?_
      refine g_callV F dX4_doGo_40 mi_X4_isRefused q2528 q2530 qs51 gc_X4 mO_o (ct_X4_isRefused0 hN (i := i) h2 hc h3 hh (by omega) hw) rfl rfl (nle rfl) (nle rfl) (nle rfl) (g_pur ?_) g_purX
      refine g_if_eq (tgt := 48) F dX4_doGo_43 (by decide) (fun c3 => ?_) (fun c3 => absurd c3 (by decide))
      refine g_aload_n F dX4_doGo_48 3 rfl rfl ?_
      refine g_iload_n F dX4_doGo_49 1 rfl rfl ?_
      refine g_iload_n F dX4_doGo_50 0 rfl rfl ?_
      refine g_callV F dX4_doGo_51 mi_X4_loud q2516 q2518 qs49 gc_X4 mO_o (ct_X4_loud hN (i := i) (by omega)) rfl rfl (nle rfl) (nle rfl) (nle rfl) (g_pur ?_) g_purX
      refine g_aload_n F dX4_doGo_54 3 rfl rfl ?_
      refine g_iload_n F dX4_doGo_55 2 rfl rfl ?_
      refine g_iconst (v := 3) F dX4_doGo_56 rfl ?_
      refine g_callV F dX4_doGo_57 mi_X4_cue1 q2548 q2550 qs54 gc_X4 mO_o (ct_X4_cue1 hN (i := 86 + 4 * k) (nto (nadd (nadd (rfl : (83 : Int32) = nI 83) (nmul (rfl : (4 : Int32) = nI 4) rfl)) (rfl : (3 : Int32) = nI 3)) (show ((83 + (4 * k)) + 3) = 86 + 4 * k by omega)) (by omega)) rfl rfl (nle rfl) (nle rfl) (nle rfl) (g_pur ?_) g_purX
      refine g_icmp_le (tgt := 76) F dX4_doGo_60 (by decide) (fun c4 => ?_) (fun c4 => ?_)
      · refine g_aload_n F dX4_doGo_76 3 rfl rfl ?_
        refine g_iload_n F dX4_doGo_77 1 rfl rfl ?_
        refine g_iload_n F dX4_doGo_78 0 rfl rfl ?_
        refine g_callV F dX4_doGo_79 mi_X4_flies q2536 q2538 qs53 gc_X4 mO_o (ct_X4_flies hN (i := i) (by omega)) rfl rfl (nle rfl) (nle rfl) (nle rfl) (g_pur ?_) g_purX
        refine g_istore (lv' := [(4, .int (mLoud (av 0) i (av 0 (85 + 4 * k)))), (3, .int (av 0 (85 + 4 * k))), (2, .int (nI i)), (1, .int (nI k)), (0, .ref o)]) F dX4_doGo_82 (by decide) rfl ?_
        refine g_aload_n F dX4_doGo_84 4 rfl rfl ?_
        refine gf_X4_9_X4 (v := .ref (L 0)) F dX4_doGo_85 mO_o rfl ?_
        refine g_bipush (v := 7) F dX4_doGo_88 rfl ?_
        refine g_aload_n F dX4_doGo_90 4 rfl rfl ?_
        refine g_iload_n F dX4_doGo_91 3 rfl rfl ?_
        refine g_iconst (v := 0) F dX4_doGo_92 rfl ?_
        refine g_callV F dX4_doGo_93 mi_X4_cue1 q2548 q2550 qs54 gc_X4 mO_o (ct_X4_cue1 hN (i := 83 + 4 * k) (nto (nadd (nadd (rfl : (83 : Int32) = nI 83) (nmul (rfl : (4 : Int32) = nI 4) rfl)) (rfl : (0 : Int32) = nI 0)) (show ((83 + (4 * k)) + 0) = 83 + 4 * k by omega)) (by omega)) rfl rfl (nle rfl) (nle rfl) (nle rfl) (g_pur ?_) g_purX
        refine g_miast hN 0 (n := 131) (i := 7) F (by decide) (by decide) rfl (mO_0 hN) (rfl : (7 : Int32) = nI 7) (show 7 = 7 by omega) (by omega) (by decide) dX4_doGo_96 ?_
        refine g_eqh (h' := (mO K h o L iv (mu av 0 (upd (xLift (av 0) i (av 0 (85 + 4 * k))) 7 ((xLift (av 0) i (av 0 (85 + 4 * k))) (83 + 4 * k)))))) (by simp only [mu_s, mu_mu]; try rfl) ?_
        refine g_aload_n F dX4_doGo_97 4 rfl rfl ?_
        refine gf_X4_9_X4 (v := .ref (L 0)) F dX4_doGo_98 mO_o rfl ?_
        refine g_bipush (v := 8) F dX4_doGo_101 rfl ?_
        refine g_dup2 F dX4_doGo_103 rfl rfl ?_
        refine g_ialdN (i := 8) F (mO_0 hN) (rfl : (8 : Int32) = nI 8) (show 8 = 8 by omega) (by omega) (by decide) dX4_doGo_104 ?_
        refine g_iconst (v := 1) F dX4_doGo_105 rfl ?_
        refine g_iadd F dX4_doGo_106 ?_
        refine g_miast hN 0 (n := 131) (i := 8) F (by decide) (by decide) rfl (mO_0 hN) (rfl : (8 : Int32) = nI 8) (show 8 = 8 by omega) (by omega) (by decide) dX4_doGo_107 ?_
        refine g_eqh (h' := (mO K h o L iv (mu av 0 (upd (upd (xLift (av 0) i (av 0 (85 + 4 * k))) 7 ((xLift (av 0) i (av 0 (85 + 4 * k))) (83 + 4 * k))) 8 (((upd (xLift (av 0) i (av 0 (85 + 4 * k))) 7 ((xLift (av 0) i (av 0 (85 + 4 * k))) (83 + 4 * k))) 8) + 1))))) (by simp only [mu_s, mu_mu]; try rfl) ?_
        refine g_aload_n F dX4_doGo_108 4 rfl rfl ?_
        refine gf_X4_9_X4 (v := .ref (L 0)) F dX4_doGo_109 mO_o rfl ?_
        refine g_bipush (v := 7) F dX4_doGo_112 rfl ?_
        refine g_ialdN (i := 7) F (mO_0 hN) (rfl : (7 : Int32) = nI 7) (show 7 = 7 by omega) (by omega) (by decide) dX4_doGo_114 ?_
        have hr : xGo (av 0) nc nh nq = (.inl ((upd (upd (xLift (av 0) i (av 0 (85 + 4 * k))) 7 ((xLift (av 0) i (av 0 (85 + 4 * k))) (83 + 4 * k))) 8 (((upd (xLift (av 0) i (av 0 (85 + 4 * k))) 7 ((xLift (av 0) i (av 0 (85 + 4 * k))) (83 + 4 * k))) 8) + 1)) 7, upd (upd (xLift (av 0) i (av 0 (85 + 4 * k))) 7 ((xLift (av 0) i (av 0 (85 + 4 * k))) (83 + 4 * k))) 8 (((upd (xLift (av 0) i (av 0 (85 + 4 * k))) 7 ((xLift (av 0) i (av 0 (85 + 4 * k))) (83 + 4 * k))) 8) + 1)) : xR) := by (simp only [xGo, hnx, xGo1, hbi, nI_clamp (show i < 2 ^ 31 by omega)]; simp (disch := omega) only [pk_un, pk_us, xLift_n]; grind)
        exact g_iret F dX4_doGo_115 (by rw [hr]; exact ⟨rfl, rfl⟩)
      · refine g_aload_n F dX4_doGo_63 3 rfl rfl ?_
        refine g_iconst (v := 1) F dX4_doGo_64 rfl ?_
        refine g_iconst (v := 5) F dX4_doGo_65 rfl ?_
        refine g_aload_n F dX4_doGo_66 3 rfl rfl ?_
        refine g_iload_n F dX4_doGo_67 1 rfl rfl ?_
        refine g_iload_n F dX4_doGo_68 0 rfl rfl ?_
        refine g_callV F dX4_doGo_69 mi_X4_loud q2516 q2518 qs49 gc_X4 mO_o (ct_X4_loud hN (i := i) (by omega)) rfl rfl (nle rfl) (nle rfl) (nle rfl) (g_pur ?_) g_purX
        refine g_callV F dX4_doGo_72 mi_X4_refuse q2407 q2409 qs37 gc_X4 mO_o (ct_X4_refuse hN) rfl rfl (nle rfl) (nle rfl) (nle rfl) (g_pur ?_) g_purX
        have hr : xGo (av 0) nc nh nq = (.inr (1, some (5, mLoud (av 0) i (av 0 (85 + 4 * k)))) : xR) := by (simp only [xGo, hnx, xGo1, hbi, nI_clamp (show i < 2 ^ 31 by omega)]; grind)
        exact g_iret F dX4_doGo_75 (by rw [hr]; exact ⟨rfl, rfl⟩)
    · refine g_aload_n F dX4_doGo_37 3 rfl rfl ?_
      refine g_iload_n F dX4_doGo_38 1 rfl rfl ?_
      refine g_iconst (v := 1) F dX4_doGo_39 rfl ?_
      refine g_callV F dX4_doGo_40 mi_X4_isRefused q2528 q2530 qs51 gc_X4 mO_o (ct_X4_isRefused1 hN (i := i) h2 hc h3 hh (by omega) hw) rfl rfl (nle rfl) (nle rfl) (nle rfl) (g_pur ?_) g_purX
      refine g_if_eq (tgt := 48) F dX4_doGo_43 (by decide) (fun c5 => absurd c5 (by decide)) (fun c5 => ?_)
      refine g_iconst (v := 0) F dX4_doGo_46 rfl ?_
      have hr : xGo (av 0) nc nh nq = (.inr (1, some (mWhy (av 0) nc nh i, mDet (av 0) nc nh i)) : xR) := by (simp only [xGo, hnx, xGo1, hbi, nI_clamp (show i < 2 ^ 31 by omega)]; grind)
      exact g_iret F dX4_doGo_47 (by rw [hr]; exact ⟨rfl, rfl⟩)
set_option maxHeartbeats 4000000 in
set_option maxRecDepth 100000 in
theorem ct_X4_doYear {K : gK} {h : AH} {o : Nat} {L : Nat → Nat} {iv : Nat → Int32} {av : Nat → Nat → Int32} (hN : mN K o L) {y : Int32} {nb nc nh nq : Nat} (hC : mC (av 0) nb nc nh nq) (hL : mL (av 0) nb nc nq) : gCt K yX4_doYear w_X4_doYear 3 65 0 0 (mO K h o L iv av) [.ref o, .int y] (pR (.int (xRet (xYear (av 0) nb nc y))) (mO K h o L (xIv iv (xYear (av 0) nb nc y)) (xAv av (xYear (av 0) nb nc y)))) := by
  refine g_meth pf_X4_doYear (nle rfl) (fun p e s m args below meth c F hnm htb => ?_)
  have F : gFix K p s m args meth c cX4_doYear 4 RX4 (some .int) := F
  refine g_eql (lv' := [(0, .ref o), (1, .int y)]) rfl ?_
  obtain ⟨h1, hb, h2, hc, h3, hh, h4, hq⟩ := hC
  refine g_iload_n F dX4_doYear_0 1 rfl rfl ?_
  refine g_iconst (v := 1) F dX4_doYear_1 rfl ?_
  refine g_bipush (v := 9) F dX4_doYear_2 rfl ?_
  refine g_callS F dX4_doYear_4 mi_X4_in q2346 q2347 ct_X4_in rfl rfl (nle rfl) (nle rfl) (nle rfl) (g_pur ?_) g_purX
  refine g_if_ne (tgt := 16) F dX4_doYear_7 (by decide) (fun c1 => ?_) (fun c1 => ?_)
  · refine g_iconst (v := 0) F dX4_doYear_16 rfl ?_
    refine g_istore_n (lv' := [(2, .int 0), (0, .ref o), (1, .int y)]) F dX4_doYear_17 rfl (by decide) rfl ?_
    refine g_iconst (v := 0) F dX4_doYear_18 rfl ?_
    refine g_istore_n (lv' := [(3, .int 0), (2, .int 0), (0, .ref o), (1, .int y)]) F dX4_doYear_19 rfl (by decide) rfl ?_
    refine g_eqh (h' := mO K h o L iv (mu av 0 (xYrs (av 0) y 0))) (by show _ = mO K h o L iv (mu av 0 (av 0)); rw [mu_id]) ?_
    refine g_lv (lv' := [(0, .ref o), (1, .int y), (2, .int 0), (3, .int 0)]) [2, 3, 1, 0] rfl ?_
    have lp : ∀ k, k ≤ nb → G K p e s m args below meth c (gRm 3 65 0 0) 4 (pR (.int (xRet (xYear (av 0) nb nc y))) (mO K h o L (xIv iv (xYear (av 0) nb nc y)) (xAv av (xYear (av 0) nb nc y)))) (mO K h o L iv (mu av 0 (xYrs (av 0) y k))) 0 0 20 [(0, .ref o), (1, .int y), (2, .int (mSum (fun k => if 0 < mLacks (xYrs (av 0) y (k + 1)) nc k then 1 else 0) k)), (3, .int (nI k))] [] := by
      refine gloop nb (fun k hk ih => ?_)
      refine g_iload_n F dX4_doYear_20 3 rfl rfl ?_
      refine g_aload_n F dX4_doYear_21 0 rfl rfl ?_
      refine gf_X4_9_X4 (v := .ref (L 0)) F dX4_doYear_22 mO_o rfl ?_
      refine g_iconst (v := 1) F dX4_doYear_25 rfl ?_
      refine g_ialdN (i := 1) F (mO_0 hN) (rfl : (1 : Int32) = nI 1) (show 1 = 1 by omega) (by omega) (by decide) dX4_doYear_26 ?_
      refine g_eqs (st' := [.int (nI nb), .int (nI k)]) (by rw [mu_s, xYrs_n (by omega), h1]) ?_
      refine g_icmp_ge (tgt := 66) F dX4_doYear_27 (by decide) (fun c2 => ?_) (fun c2 => ?_)
      · have hkN : k = nb := gexit (by omega) hk c2
        subst hkN
        refine g_aload_n F dX4_doYear_66 0 rfl rfl ?_
        refine gf_X4_9_X4 (v := .ref (L 0)) F dX4_doYear_67 mO_o rfl ?_
        refine g_iconst (v := 0) F dX4_doYear_70 rfl ?_
        refine g_dup2 F dX4_doYear_71 rfl rfl ?_
        refine g_ialdN (i := 0) F (mO_0 hN) (rfl : (0 : Int32) = nI 0) (show 0 = 0 by omega) (by omega) (by decide) dX4_doYear_72 ?_
        refine g_iload_n F dX4_doYear_73 1 rfl rfl ?_
        refine g_iadd F dX4_doYear_74 ?_
        refine g_miast hN 0 (n := 131) (i := 0) F (by decide) (by decide) rfl (mO_0 hN) (rfl : (0 : Int32) = nI 0) (show 0 = 0 by omega) (by omega) (by decide) dX4_doYear_75 ?_
        refine g_eqh (h' := (mO K h o L iv (mu av 0 (upd (xYrs (av 0) y k) 0 (((xYrs (av 0) y k) 0) + y))))) (by simp only [mu_s, mu_mu]; try rfl) ?_
        refine g_iload_n F dX4_doYear_76 2 rfl rfl ?_
        have hr : xYear (av 0) k nc y = (.inl (mSum (fun k => if 0 < mLacks (xYrs (av 0) y (k + 1)) nc k then 1 else 0) k, upd (xYrs (av 0) y k) 0 (((xYrs (av 0) y k) 0) + y)) : xR) := by (simp only [xYear]; grind)
        exact g_iret F dX4_doYear_77 (by rw [hr]; exact ⟨rfl, rfl⟩)
      · have hlt : k < nb := gbody (by omega) hk c2
        refine g_aload_n F dX4_doYear_30 0 rfl rfl ?_
        refine g_iload_n F dX4_doYear_31 3 rfl rfl ?_
        refine g_iconst (v := 2) F dX4_doYear_32 rfl ?_
        refine g_aload_n F dX4_doYear_33 0 rfl rfl ?_
        refine g_iload_n F dX4_doYear_34 3 rfl rfl ?_
        refine g_iconst (v := 2) F dX4_doYear_35 rfl ?_
        refine g_callV F dX4_doYear_36 mi_X4_bar1 q2373 q2375 qs30 gc_X4 mO_o (ct_X4_bar1 hN (i := 13 + 4 * k) (nto (nadd (nadd (rfl : (11 : Int32) = nI 11) (nmul (rfl : (4 : Int32) = nI 4) rfl)) (rfl : (2 : Int32) = nI 2)) (show ((11 + (4 * k)) + 2) = 13 + 4 * k by omega)) (by omega)) rfl rfl (nle rfl) (nle rfl) (nle rfl) (g_pur ?_) g_purX
        refine g_iload_n F dX4_doYear_39 1 rfl rfl ?_
        refine g_iadd F dX4_doYear_40 ?_
        refine g_callV F dX4_doYear_41 mi_X4_setBar q2361 q2363 qs28 gc_X4 mO_o (ct_X4_setBar hN (i := 13 + 4 * k) (nto (nadd (nadd (rfl : (11 : Int32) = nI 11) (nmul (rfl : (4 : Int32) = nI 4) rfl)) (rfl : (2 : Int32) = nI 2)) (show ((11 + (4 * k)) + 2) = 13 + 4 * k by omega)) (by omega)) rfl rfl (nle rfl) (nle rfl) (nle rfl) (g_purv ?_) g_purvX
        refine g_eqh (h' := (mO K h o L iv (mu av 0 (upd (xYrs (av 0) y k) (13 + 4 * k) (((xYrs (av 0) y k) (13 + 4 * k)) + y))))) (by simp only [mu_s, mu_mu]; try rfl) ?_
        refine g_eqh (h' := mO K h o L iv (mu av 0 (xYrs (av 0) y (k + 1)))) (by simp only [mu_s, mu_mu, xYrs]) ?_
        refine g_iload_n F dX4_doYear_44 2 rfl rfl ?_
        refine g_aload_n F dX4_doYear_45 0 rfl rfl ?_
        refine g_iload_n F dX4_doYear_46 3 rfl rfl ?_
        refine g_callV F dX4_doYear_47 mi_X4_lacks q2419 q2421 qs39 gc_X4 mO_o (ct_X4_lacks hN (i := k) (show _ = nI nc by rw [mu_s]; exact (xYrs_n (y := y) (k := k + 1) (by omega)).trans h2) hc (by omega)) rfl rfl (nle rfl) (nle rfl) (nle rfl) (g_pur ?_) g_purX
        refine g_if_le (tgt := 57) F dX4_doYear_50 (by decide) (fun c3 => ?_) (fun c3 => ?_)
        · rw [mu_s] at c3
          refine g_iconst (v := 0) F dX4_doYear_57 rfl ?_
          refine g_iadd F dX4_doYear_58 ?_
          refine g_istore_n (lv' := [(2, .int ((mSum (fun k => if 0 < mLacks (xYrs (av 0) y (k + 1)) nc k then 1 else 0) k) + 0)), (0, .ref o), (1, .int y), (3, .int (nI k))]) F dX4_doYear_59 rfl (by decide) rfl ?_
          refine g_iinc (lv' := [(3, .int ((nI k) + 1)), (2, .int ((mSum (fun k => if 0 < mLacks (xYrs (av 0) y (k + 1)) nc k then 1 else 0) k) + 0)), (0, .ref o), (1, .int y)]) (v := (nI k) + 1) F dX4_doYear_60 (k := 3) rfl rfl (by decide) rfl ?_
          refine g_goto (tgt := 20) F dX4_doYear_63 (by decide) ?_
          refine g_lv (lv' := [(0, .ref o), (1, .int y), (2, .int ((mSum (fun k => if 0 < mLacks (xYrs (av 0) y (k + 1)) nc k then 1 else 0) k) + 0)), (3, .int ((nI k) + 1))]) [2, 3, 1, 0] rfl ?_
          exact g_eql (lv' := [(0, .ref o), (1, .int y), (2, .int (mSum (fun k => if 0 < mLacks (xYrs (av 0) y (k + 1)) nc k then 1 else 0) (k + 1))), (3, .int (nI (k + 1)))]) (by simp only [nI_1, mSum_s]; grind) (ih hlt)
        · rw [mu_s] at c3
          refine g_iconst (v := 1) F dX4_doYear_53 rfl ?_
          refine g_goto (tgt := 58) F dX4_doYear_54 (by decide) ?_
          refine g_iadd F dX4_doYear_58 ?_
          refine g_istore_n (lv' := [(2, .int ((mSum (fun k => if 0 < mLacks (xYrs (av 0) y (k + 1)) nc k then 1 else 0) k) + 1)), (0, .ref o), (1, .int y), (3, .int (nI k))]) F dX4_doYear_59 rfl (by decide) rfl ?_
          refine g_iinc (lv' := [(3, .int ((nI k) + 1)), (2, .int ((mSum (fun k => if 0 < mLacks (xYrs (av 0) y (k + 1)) nc k then 1 else 0) k) + 1)), (0, .ref o), (1, .int y)]) (v := (nI k) + 1) F dX4_doYear_60 (k := 3) rfl rfl (by decide) rfl ?_
          refine g_goto (tgt := 20) F dX4_doYear_63 (by decide) ?_
          refine g_lv (lv' := [(0, .ref o), (1, .int y), (2, .int ((mSum (fun k => if 0 < mLacks (xYrs (av 0) y (k + 1)) nc k then 1 else 0) k) + 1)), (3, .int ((nI k) + 1))]) [2, 3, 1, 0] rfl ?_
          exact g_eql (lv' := [(0, .ref o), (1, .int y), (2, .int (mSum (fun k => if 0 < mLacks (xYrs (av 0) y (k + 1)) nc k then 1 else 0) (k + 1))), (3, .int (nI (k + 1)))]) (by simp only [nI_1, mSum_s]; grind) (ih hlt)
    exact lp 0 (Nat.zero_le _)
  · refine g_aload_n F dX4_doYear_10 0 rfl rfl ?_
    refine g_iconst (v := 1) F dX4_doYear_11 rfl ?_
    refine g_callV F dX4_doYear_12 mi_X4_fails q2349 q2351 qs26 gc_X4 mO_o (ct_X4_fails hN) rfl rfl (nle rfl) (nle rfl) (nle rfl) (g_pur ?_) g_purX
    have hr : xYear (av 0) nb nc y = (.inr (1, none) : xR) := by (simp only [xYear]; grind)
    exact g_iret F dX4_doYear_15 (by rw [hr]; exact ⟨rfl, rfl⟩)
section MCOPY
variable {K : gK} {p : Program} {e : Env} {s : State} {m : MethodId} {args : Array Value} {below : List Frame} {meth : Method} {c : Code} {R : Room} {nL : Nat} {post : gRes → AH → Prop} {h : AH} {b bs pc : Nat} {lv : List (Nat × Value)} {st : List Value} {cc : ByteArray} {own : String} {ret : Option FieldType}
theorem g_mcopy {o : Nat} {L : Nat → Nat} {iv : Nat → Int32} {av : Nat → Nat → Int32} (hN : mN K o L) (j0 j1 : Nat) {index n0 n1 a b0 k : Nat} {x y z : Int32} (F : gFix K p s m args meth c cc nL own ret) (hac : gAc own index) (hj0 : j0 ∈ mJ) (hj1 : j1 ∈ mJ) (h12 : j1 ≠ 12 ∧ j1 ≠ 10 ∧ j0 ≠ 12 ∧ j0 ≠ 10) (hn0 : n0 = mSz j0) (hn1 : n1 = mSz j1) (ha0 : mO K h o L iv av (L j0) = some (.inl (gT K 0, n0, .inl (av j0)))) (ha1 : mO K h o L iv av (L j1) = some (.inl (gT K 0, n1, .inl (av j1)))) (hx : x = nI a) (hy : y = nI b0) (hz : z = nI k) (h1 : a + k ≤ n0) (h2 : b0 + k ≤ n1) (hlt : n0 < 2 ^ 31 ∧ n1 < 2 ^ 31) (hfr : 1 ≤ R.frames) (hlo : (st.map fun v => v.category).sum + (nativeFrameWords "java/lang/System" "arraycopy" 5 + 11) ≤ R.locals) (hd : decode cc pc = .ok (.invokestatic index, 3))
    (kk : G K p e s m args below meth c R nL post (mO K h o L iv (mu av j1 (va_cpy (av j0) (av j1) a b0 k))) b bs (pc + 3) lv st) : G K p e s m args below meth c R nL post (mO K h o L iv av) b bs pc lv (.int z :: .int y :: .ref (L j1) :: .int x :: .ref (L j0) :: st) := by
  subst hx; subst hy; subst hz
  have c1 : (nI a).toNatClampNeg = a := nI_clamp (by omega)
  have c2 : (nI b0).toNatClampNeg = b0 := nI_clamp (by omega)
  have c3 : (nI k).toNatClampNeg = k := nI_clamp (by omega)
  refine g_acpy (t := 0) F hac (by decide) ha0 (hN.2.1 j0 hj0) ha1 (hN.2.1 j1 hj1) (nI_pos (by omega)) (nI_pos (by omega)) (nI_pos (by omega)) (by rw [c1, c3]; exact h1) (by rw [c2, c3]; exact h2) (fun i _ => rfl) hfr hlo hd (fun h9 e9 => ?_)
  rw [e9, c1, c2, c3, mO_pj hN hj1 h12.1 (by simp [h12.2.1]) hn1]
  exact kk
end MCOPY

set_option maxHeartbeats 4000000 in
set_option maxRecDepth 100000 in
theorem ct_X4_keep {K : gK} {h : AH} {o : Nat} {L : Nat → Nat} {iv : Nat → Int32} {av : Nat → Nat → Int32} (hN : mN K o L) : gCt K yX4_keep w_X4_keep 1 40 0 0 (mO K h o L iv av) [.ref o] (pV (mO K h o L (upd iv 7 0) (mu av 1 (va_cpy (av 0) (av 1) 0 0 131)))) := by
  refine g_meth pf_X4_keep (nle rfl) (fun p e s m args below meth c F hnm htb => ?_)
  have F : gFix K p s m args meth c cX4_keep 1 RX4 none := F
  refine g_eql (lv' := [(0, .ref o)]) rfl ?_
  refine g_aload_n F dX4_keep_0 0 rfl rfl ?_
  refine g_iconst (v := 0) F dX4_keep_1 rfl ?_
  refine gp_X4_69_X4 F dX4_keep_2 mO_o hN.1 (nle rfl) rfl (fun h_e1 e1 => ?_)
  refine g_mput (iv2 := upd iv 7 0) e1 rfl ?_
  refine g_aload_n F dX4_keep_5 0 rfl rfl ?_
  refine gf_X4_9_X4 (v := .ref (L 0)) F dX4_keep_6 mO_o rfl ?_
  refine g_iconst (v := 0) F dX4_keep_9 rfl ?_
  refine g_aload_n F dX4_keep_10 0 rfl rfl ?_
  refine gf_X4_13_X4 (v := .ref (L 1)) F dX4_keep_11 mO_o rfl ?_
  refine g_iconst (v := 0) F dX4_keep_14 rfl ?_
  refine g_sipush (v := 131) F dX4_keep_15 rfl ?_
  refine g_mcopy hN 0 1 (n0 := 131) (n1 := 131) (a := 0) (b0 := 0) (k := 131) F ⟨q2345, q718, q717, q94⟩ (by decide) (by decide) (by decide) rfl rfl (mO_0 hN) (mO_1 hN) (nto (rfl : (0 : Int32) = nI 0) (show 0 = 0 by omega)) (nto (rfl : (0 : Int32) = nI 0) (show 0 = 0 by omega)) (nto (rfl : (131 : Int32) = nI 131) (show 131 = 131 by omega)) (by omega) (by omega) (by decide) (nle rfl) (nle rfl) dX4_keep_18 ?_
  exact g_vret F dX4_keep_21 (⟨rfl, rfl⟩)
