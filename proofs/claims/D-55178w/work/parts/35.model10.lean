/-! ===== THE REFERENCE: reading (written by tools/model10.py) ===== -/
set_option maxHeartbeats 4000000 in
set_option maxRecDepth 100000 in
theorem ct_X4_isHere {K : gK} {h : AH} {o : Nat} {L : Nat → Nat} {iv : Nat → Int32} {av : Nat → Nat → Int32} (hN : mN K o L) {n pl im : Nat} {w : Int32} (h14 : iv 14 = nI n) (hn : n ≤ 60) (hp : pl < 9000) {lo hi : Int32} : gCt K yX4_isHere w_X4_isHere 1 22 0 0 (mO K h o L (pIv iv pl w im) av) [.ref o, .int lo, .int hi] (pR (.int (hrP (av 13) n lo hi pl w)) (mO K h o L (pIv iv pl w im) av)) := by
  refine g_meth pf_X4_isHere (nle rfl) (fun p e s m args below meth c F hnm htb => ?_)
  have F : gFix K p s m args meth c cX4_isHere 3 RX4 (some .boolean) := F
  refine g_eql (lv' := [(0, .ref o), (1, .int lo), (2, .int hi)]) rfl ?_
  refine g_aload_n F dX4_isHere_0 0 rfl rfl ?_
  refine gf_X4_255_X4 (v := .int ((pIv iv pl w im) 16)) F dX4_isHere_1 mO_o rfl ?_
  refine g_eqs (st' := [.int w]) (congrArg (fun z => [Value.int z]) pIv_16) ?_
  refine g_if_ne (tgt := 39) F dX4_isHere_4 (by decide) (fun c1 => ?_) (fun c1 => ?_)
  · have d4 := c1
    refine g_iconst (v := 0) F dX4_isHere_39 rfl ?_
    exact g_zret F dX4_isHere_40 (by first | rfl | exact mIn_n | (split <;> rfl) | decide) (⟨by first | rw [hrP_1 ⟨d4, d15, by assumption⟩] | rw [hrP_0 (fun z => d4 z.1)] | rw [hrP_0 (fun z => d15 z.2.1)] | rw [hrP_0 (fun z => z.2.2 (by assumption))], rfl⟩)
  · have d4 := c1
    refine g_aload_n F dX4_isHere_7 0 rfl rfl ?_
    refine gf_X4_259_X4 (v := .int ((pIv iv pl w im) 15)) F dX4_isHere_8 mO_o rfl ?_
    refine g_eqs (st' := [.int (nI pl)]) (congrArg (fun z => [Value.int z]) pIv_15) ?_
    refine g_aload_n F dX4_isHere_11 0 rfl rfl ?_
    refine gf_X4_253_X4 (v := .int ((pIv iv pl w im) 14)) F dX4_isHere_12 mO_o rfl ?_
    refine g_eqs (st' := [.int (nI n), .int (nI pl)]) (congrArg (fun z => [Value.int z, .int (nI pl)]) ((pIv_n (by decide) (by decide) (by decide)).trans h14)) ?_
    refine g_icmp_ge (tgt := 39) F dX4_isHere_15 (by decide) (fun c2 => ?_) (fun c2 => ?_)
    · have d15 : ¬ pl < n := fun z => absurd c2 (nI_ge z (by omega))
      refine g_iconst (v := 0) F dX4_isHere_39 rfl ?_
      exact g_zret F dX4_isHere_40 (by first | rfl | exact mIn_n | (split <;> rfl) | decide) (⟨by first | rw [hrP_1 ⟨d4, d15, by assumption⟩] | rw [hrP_0 (fun z => d4 z.1)] | rw [hrP_0 (fun z => d15 z.2.1)] | rw [hrP_0 (fun z => z.2.2 (by assumption))], rfl⟩)
    · have d15 : pl < n := by
        rcases Nat.lt_or_ge pl n with q | q
        · exact q
        · exact absurd (nI_le q (by omega)) c2
      refine g_aload_n F dX4_isHere_18 0 rfl rfl ?_
      refine gf_X4_53_X4 (v := .ref (L 13)) F dX4_isHere_19 mO_o rfl ?_
      refine g_aload_n F dX4_isHere_22 0 rfl rfl ?_
      refine gf_X4_259_X4 (v := .int ((pIv iv pl w im) 15)) F dX4_isHere_23 mO_o rfl ?_
      refine g_eqs (st' := [.int (nI pl), .ref (L 13)]) (congrArg (fun z => [Value.int z, .ref (L 13)]) pIv_15) ?_
      refine g_ialdN (i := pl) F (mO_13 hN) rfl (show pl = pl by omega) (by omega) (by decide) dX4_isHere_26 ?_
      refine g_iload_n F dX4_isHere_27 1 rfl rfl ?_
      refine g_iload_n F dX4_isHere_28 2 rfl rfl ?_
      refine g_callS F dX4_isHere_29 mi_X4_in q2346 q2347 ct_X4_in rfl rfl (nle rfl) (nle rfl) (nle rfl) (g_pur ?_) g_purX
      refine g_if_eq (tgt := 39) F dX4_isHere_32 (by decide) (fun c3 => ?_) (fun c3 => ?_)
      · refine g_iconst (v := 0) F dX4_isHere_39 rfl ?_
        exact g_zret F dX4_isHere_40 (by first | rfl | exact mIn_n | (split <;> rfl) | decide) (⟨by first | rw [hrP_1 ⟨d4, d15, by assumption⟩] | rw [hrP_0 (fun z => d4 z.1)] | rw [hrP_0 (fun z => d15 z.2.1)] | rw [hrP_0 (fun z => z.2.2 (by assumption))], rfl⟩)
      · refine g_iconst (v := 1) F dX4_isHere_35 rfl ?_
        refine g_goto (tgt := 40) F dX4_isHere_36 (by decide) ?_
        exact g_zret F dX4_isHere_40 (by first | rfl | exact mIn_n | (split <;> rfl) | decide) (⟨by first | rw [hrP_1 ⟨d4, d15, by assumption⟩] | rw [hrP_0 (fun z => d4 z.1)] | rw [hrP_0 (fun z => d15 z.2.1)] | rw [hrP_0 (fun z => z.2.2 (by assumption))], rfl⟩)
set_option maxHeartbeats 4000000 in
set_option maxRecDepth 100000 in
theorem ct_X4_sign {K : gK} {h : AH} {o : Nat} {L : Nat → Nat} {iv : Nat → Int32} {av : Nat → Nat → Int32} (hN : mN K o L) {n pl im : Nat} {w : Int32} (h14 : iv 14 = nI n) (hn : n ≤ 60) (hp : pl < 8000) {lo hi : Int32} : gCt K yX4_sign w_X4_sign 2 44 0 0 (mO K h o L (pIv iv pl w im) av) [.ref o, .int lo, .int hi] (pR (.int (sgP (av 13) n lo hi pl w).2.2) (mO K h o L (pIv iv (sgP (av 13) n lo hi pl w).1 (sgP (av 13) n lo hi pl w).2.1 im) av)) := by
  refine g_meth pf_X4_sign (nle rfl) (fun p e s m args below meth c F hnm htb => ?_)
  have F : gFix K p s m args meth c cX4_sign 3 RX4 (some .int) := F
  refine g_eql (lv' := [(0, .ref o), (1, .int lo), (2, .int hi)]) rfl ?_
  refine g_aload_n F dX4_sign_0 0 rfl rfl ?_
  refine g_aload_n F dX4_sign_1 0 rfl rfl ?_
  refine g_iload_n F dX4_sign_2 1 rfl rfl ?_
  refine g_iload_n F dX4_sign_3 2 rfl rfl ?_
  have t1 := ct_X4_isHere (h := h) (iv := iv) (av := av) (pl := pl) (w := w) (im := im) (lo := lo) (hi := hi) hN h14 hn (by omega)
  refine g_callV F dX4_sign_4 mi_X4_isHere q2661 q2663 qs66 gc_X4 mO_o t1 rfl rfl (nle rfl) (nle rfl) (nle rfl) (g_pur ?_) g_purX
  refine g_if_ne (tgt := 14) F dX4_sign_7 (by decide) (fun c2 => ?_) (fun c2 => ?_)
  · have d7 := c2
    have hh := hrP_p c2
    refine g_iconst (v := 0) F dX4_sign_14 rfl ?_
    refine gp_X4_255_X4 F dX4_sign_15 (by first | rfl | decide | (split <;> rfl)) (by first | rfl | decide | (split <;> rfl)) mO_o hN.1 (nle rfl) rfl (fun h_e3 e3 => ?_)
    refine g_mput (iv2 := upd (pIv iv pl w im) 16 0) e3 rfl ?_
    refine g_eqh (h' := (mO K h o L (pIv iv pl 0 im) av)) (by rw [pIv_w]) ?_
    refine g_aload_n F dX4_sign_18 0 rfl rfl ?_
    refine gf_X4_255_X4 (v := .int ((pIv iv pl 0 im) 16)) F dX4_sign_19 mO_o rfl ?_
    refine g_eqs (st' := [.int 0]) (congrArg (fun z => [Value.int z]) pIv_16) ?_
    refine g_if_eq (tgt := 27) F dX4_sign_22 (by decide) (fun c4 => ?_) (fun c4 => absurd c4 (by decide))
    refine g_aload_n F dX4_sign_27 0 rfl rfl ?_
    refine g_dup F dX4_sign_28 rfl ?_
    refine gf_X4_259_X4 (v := .int ((pIv iv pl 0 im) 15)) F dX4_sign_29 mO_o rfl ?_
    refine g_eqs (st' := [.int (nI pl), .ref o]) (congrArg (fun z => [Value.int z, .ref o]) pIv_15) ?_
    refine g_iconst (v := 1) F dX4_sign_32 rfl ?_
    refine g_iadd F dX4_sign_33 ?_
    refine gp_X4_259_X4 F dX4_sign_34 mO_o hN.1 (nle rfl) rfl (fun h_e5 e5 => ?_)
    refine g_mput (iv2 := upd (pIv iv pl 0 im) 15 ((nI pl) + 1)) e5 rfl ?_
    refine g_eqh (h' := mO K h o L (pIv iv (pl + 1) 0 im) av) (by rw [nI_1, pIv_p]) ?_
    refine g_aload_n F dX4_sign_37 0 rfl rfl ?_
    refine gf_X4_53_X4 (v := .ref (L 13)) F dX4_sign_38 mO_o rfl ?_
    refine g_aload_n F dX4_sign_41 0 rfl rfl ?_
    refine gf_X4_259_X4 (v := .int ((pIv iv (pl + 1) 0 im) 15)) F dX4_sign_42 mO_o rfl ?_
    refine g_eqs (st' := [.int (nI (pl + 1)), .ref (L 13)]) (congrArg (fun z => [Value.int z, .ref (L 13)]) pIv_15) ?_
    refine g_iconst (v := 1) F dX4_sign_45 rfl ?_
    refine g_isub F dX4_sign_46 ?_
    refine g_ialdN (i := pl) F (mO_13 hN) (show nI (pl + 1) - 1 = nI pl from nI_pred pl) rfl (by omega) (by decide) dX4_sign_47 ?_
    refine g_iload_n F dX4_sign_48 1 rfl rfl ?_
    refine g_isub F dX4_sign_49 ?_
    exact g_iret F dX4_sign_50 (⟨by rw [sgP_f d7], by rw [sgP_f d7]⟩)
  · have d7 := c2
    refine g_iconst (v := 1) F dX4_sign_10 rfl ?_
    refine g_goto (tgt := 15) F dX4_sign_11 (by decide) ?_
    refine gp_X4_255_X4 F dX4_sign_15 (by first | rfl | decide | (split <;> rfl)) (by first | rfl | decide | (split <;> rfl)) mO_o hN.1 (nle rfl) rfl (fun h_e6 e6 => ?_)
    refine g_mput (iv2 := upd (pIv iv pl w im) 16 1) e6 rfl ?_
    refine g_eqh (h' := (mO K h o L (pIv iv pl 1 im) av)) (by rw [pIv_w]) ?_
    refine g_aload_n F dX4_sign_18 0 rfl rfl ?_
    refine gf_X4_255_X4 (v := .int ((pIv iv pl 1 im) 16)) F dX4_sign_19 mO_o rfl ?_
    refine g_eqs (st' := [.int 1]) (congrArg (fun z => [Value.int z]) pIv_16) ?_
    refine g_if_eq (tgt := 27) F dX4_sign_22 (by decide) (fun c7 => absurd c7 (by decide)) (fun c7 => ?_)
    refine g_iconst (v := 0) F dX4_sign_25 rfl ?_
    exact g_iret F dX4_sign_26 (⟨by rw [sgP_t d7], by rw [sgP_t d7]⟩)
set_option maxHeartbeats 4000000 in
set_option maxRecDepth 100000 in
theorem ct_X4_digit {K : gK} {h : AH} {o : Nat} {L : Nat → Nat} {iv : Nat → Int32} {av : Nat → Nat → Int32} (hN : mN K o L) {n pl im : Nat} {w : Int32} (h14 : iv 14 = nI n) (hn : n ≤ 60) (hp : pl < 7000) : gCt K yX4_digit w_X4_digit 3 66 0 0 (mO K h o L (pIv iv pl w im) av) [.ref o] (pR (.int (sgP (av 13) n 48 57 pl w).2.2) (mO K h o L (pIv iv (sgP (av 13) n 48 57 pl w).1 (sgP (av 13) n 48 57 pl w).2.1 im) av)) := by
  refine g_meth pf_X4_digit (nle rfl) (fun p e s m args below meth c F hnm htb => ?_)
  have F : gFix K p s m args meth c cX4_digit 1 RX4 (some .int) := F
  refine g_eql (lv' := [(0, .ref o)]) rfl ?_
  refine g_aload_n F dX4_digit_0 0 rfl rfl ?_
  refine g_bipush (v := 48) F dX4_digit_1 rfl ?_
  refine g_bipush (v := 57) F dX4_digit_3 rfl ?_
  have t1 := ct_X4_sign (h := h) (iv := iv) (av := av) (pl := pl) (w := w) (im := im) (lo := 48) (hi := 57) hN h14 hn (by omega)
  refine g_callV F dX4_digit_5 mi_X4_sign q2657 q2659 qs65 gc_X4 mO_o t1 rfl rfl (nle rfl) (nle rfl) (nle rfl) (g_pur ?_) g_purX
  have t1l := sgP_le (t := av 13) (n := n) (p := pl) (w := w) (lo := 48) (hi := 57)
  exact g_iret F dX4_digit_8 (⟨rfl, rfl⟩)
set_option maxHeartbeats 4000000 in
set_option maxRecDepth 100000 in
theorem ct_X4_number {K : gK} {h : AH} {o : Nat} {L : Nat → Nat} {iv : Nat → Int32} {av : Nat → Nat → Int32} (hN : mN K o L) {n pl im : Nat} {w : Int32} (h14 : iv 14 = nI n) (hn : n ≤ 60) (hp : pl < 6000) : gCt K yX4_number w_X4_number 4 86 0 0 (mO K h o L (pIv iv pl w im) av) [.ref o] (pR (.int (nmP (av 13) n pl w).2.2) (mO K h o L (pIv iv (nmP (av 13) n pl w).1 (nmP (av 13) n pl w).2.1 im) av)) := by
  refine g_meth pf_X4_number (nle rfl) (fun p e s m args below meth c F hnm htb => ?_)
  have F : gFix K p s m args meth c cX4_number 2 RX4 (some .int) := F
  refine g_eql (lv' := [(0, .ref o)]) rfl ?_
  refine g_aload_n F dX4_number_0 0 rfl rfl ?_
  have t1 := ct_X4_digit (h := h) (iv := iv) (av := av) (pl := pl) (w := w) (im := im) hN h14 hn (by omega)
  refine g_callV F dX4_number_1 mi_X4_digit q2653 q2655 qs64 gc_X4 mO_o t1 rfl rfl (nle rfl) (nle rfl) (nle rfl) (g_pur ?_) g_purX
  have t1l := sgP_le (t := av 13) (n := n) (p := pl) (w := w) (lo := 48) (hi := 57)
  refine g_istore_n (lv' := [(1, .int ((sgP (av 13) n 48 57 pl w).2.2)), (0, .ref o)]) F dX4_number_4 rfl (by decide) rfl ?_
  refine g_iload_n F dX4_number_5 0 rfl rfl ?_
  refine g_if_le (tgt := 32) F dX4_number_6 (by decide) (fun c2 => ?_) (fun c2 => ?_)
  · have d6 : ¬ 0 < (sgP (av 13) n 48 57 pl w).2.2 := Int32.not_lt.mpr c2
    refine g_iload_n F dX4_number_32 0 rfl rfl ?_
    exact g_iret F dX4_number_33 (⟨by first | rw [nmP_t ⟨d6, d17⟩] | rw [nmP_f (fun z => d6 z.1)] | rw [nmP_f (fun z => z.2 d17)], by first | rw [nmP_t ⟨d6, d17⟩] | rw [nmP_f (fun z => d6 z.1)] | rw [nmP_f (fun z => z.2 d17)]⟩)
  · have d6 : 0 < (sgP (av 13) n 48 57 pl w).2.2 := Int32.not_le.mp c2
    refine g_aload_n F dX4_number_9 1 rfl rfl ?_
    refine g_bipush (v := 48) F dX4_number_10 rfl ?_
    refine g_bipush (v := 57) F dX4_number_12 rfl ?_
    have t3 := ct_X4_isHere (h := h) (iv := iv) (av := av) (pl := (sgP (av 13) n 48 57 pl w).1) (w := (sgP (av 13) n 48 57 pl w).2.1) (im := im) (lo := 48) (hi := 57) hN h14 hn (by omega)
    refine g_callV F dX4_number_14 mi_X4_isHere q2661 q2663 qs66 gc_X4 mO_o t3 rfl rfl (nle rfl) (nle rfl) (nle rfl) (g_pur ?_) g_purX
    refine g_if_eq (tgt := 32) F dX4_number_17 (by decide) (fun c4 => ?_) (fun c4 => ?_)
    · have d17 := c4
      refine g_iload_n F dX4_number_32 0 rfl rfl ?_
      exact g_iret F dX4_number_33 (⟨by first | rw [nmP_t ⟨d6, d17⟩] | rw [nmP_f (fun z => d6 z.1)] | rw [nmP_f (fun z => z.2 d17)], by first | rw [nmP_t ⟨d6, d17⟩] | rw [nmP_f (fun z => d6 z.1)] | rw [nmP_f (fun z => z.2 d17)]⟩)
    · have d17 := c4
      refine g_bipush (v := 10) F dX4_number_20 rfl ?_
      refine g_iload_n F dX4_number_22 0 rfl rfl ?_
      refine g_imul F dX4_number_23 ?_
      refine g_aload_n F dX4_number_24 1 rfl rfl ?_
      have t5 := ct_X4_digit (h := h) (iv := iv) (av := av) (pl := (sgP (av 13) n 48 57 pl w).1) (w := (sgP (av 13) n 48 57 pl w).2.1) (im := im) hN h14 hn (by omega)
      refine g_callV F dX4_number_25 mi_X4_digit q2653 q2655 qs64 gc_X4 mO_o t5 rfl rfl (nle rfl) (nle rfl) (nle rfl) (g_pur ?_) g_purX
      have t5l := sgP_le (t := av 13) (n := n) (p := (sgP (av 13) n 48 57 pl w).1) (w := (sgP (av 13) n 48 57 pl w).2.1) (lo := 48) (hi := 57)
      refine g_iadd F dX4_number_28 ?_
      refine g_goto (tgt := 33) F dX4_number_29 (by decide) ?_
      exact g_iret F dX4_number_33 (⟨by first | rw [nmP_t ⟨d6, d17⟩] | rw [nmP_f (fun z => d6 z.1)] | rw [nmP_f (fun z => z.2 d17)], by first | rw [nmP_t ⟨d6, d17⟩] | rw [nmP_f (fun z => d6 z.1)] | rw [nmP_f (fun z => z.2 d17)]⟩)
set_option maxHeartbeats 4000000 in
set_option maxRecDepth 100000 in
theorem ct_X4_alike {K : gK} {h : AH} {o : Nat} {L : Nat → Nat} {iv : Nat → Int32} {av : Nat → Nat → Int32} (hN : mN K o L) {n pl im : Nat} {w : Int32} (h14 : iv 14 = nI n) (hn : n ≤ 60) (hp : pl < 1000) {a : Nat} {l : List Nat} (hS : gStr K a l) (hll : l.length ≤ 20) (hlc : ∀ c ∈ l, c < 128) : gCt K yX4_alike w_X4_alike 4 85 0 0 (mO K h o L (pIv iv pl w im) av) [.ref o, .ref a] (pR (.int (nI (xAl (av 13) n l pl))) (mO K h o L (pIv iv pl w im) av)) := by
  refine g_meth pf_X4_alike (nle rfl) (fun p e s m args below meth c F hnm htb => ?_)
  have F : gFix K p s m args meth c cX4_alike 3 RX4 (some .int) := F
  refine g_eql (lv' := [(0, .ref o), (1, .ref a)]) rfl ?_
  obtain ⟨bb, hv, zv, ho1, ho2⟩ := hS
  have hln : l.length < 2 ^ 31 := by omega
  refine g_iconst (v := 0) F dX4_alike_0 rfl ?_
  refine g_istore_n (lv' := [(2, .int 0), (0, .ref o), (1, .ref a)]) F dX4_alike_1 rfl (by decide) rfl ?_
  refine g_lv (lv' := [(0, .ref o), (1, .ref a), (2, .int 0)]) [1, 2, 0] rfl ?_
  have lp : ∀ k, k ≤ l.length → xAl (av 13) n l pl = k + xAl (av 13) n (l.drop k) (pl + k) → G K p e s m args below meth c (gRm 4 85 0 0) 3 (pR (.int (nI (xAl (av 13) n l pl))) (mO K h o L (pIv iv pl w im) av)) (mO K h o L (pIv iv pl w im) av) 0 0 2 [(0, .ref o), (1, .ref a), (2, .int (nI k))] [] := by
    refine gloop l.length (fun k hk ih => ?_)
    intro hinv
    refine g_iload_n F dX4_alike_2 2 rfl rfl ?_
    refine g_old ho1 (fun hs1 => ?_)
    refine g_old ho2 (fun hb2 => ?_)
    refine g_aload_n F dX4_alike_3 1 rfl rfl ?_
    refine g_callV F dX4_alike_4 mi_J6_length q2589 q888 q889 gc_J6 hs1 (ct_J6_length hs1 hb2 hln) rfl rfl (nle rfl) (nle rfl) (nle rfl) (g_pur ?_) g_purX
    refine g_icmp_ge (tgt := 48) F dX4_alike_7 (by decide) (fun c3 => ?_) (fun c3 => ?_)
    · have hkN : k = l.length := gexit hln hk c3
      have dr : xAl (av 13) n l pl = k := by rw [hinv, hkN, List.drop_length]; rfl
      refine g_iload_n F dX4_alike_48 2 rfl rfl ?_
      exact g_iret F dX4_alike_49 (⟨by rw [dr], rfl⟩)
    · have hlt : k < l.length := gbody hln hk c3
      have hck : l.getD k 0 < 128 := hlc _ (getD_mem hlt)
      refine g_aload_n F dX4_alike_10 0 rfl rfl ?_
      refine gf_X4_259_X4 (v := .int ((pIv iv pl w im) 15)) F dX4_alike_11 mO_o rfl ?_
      refine g_eqs (st' := [.int (nI pl)]) (congrArg (fun z => [Value.int z]) pIv_15) ?_
      refine g_iload_n F dX4_alike_14 2 rfl rfl ?_
      refine g_iadd F dX4_alike_15 ?_
      refine g_aload_n F dX4_alike_16 0 rfl rfl ?_
      refine gf_X4_253_X4 (v := .int ((pIv iv pl w im) 14)) F dX4_alike_17 mO_o rfl ?_
      refine g_eqs (st' := [.int (nI n), .int ((nI pl) + (nI k))]) (congrArg (fun z => [Value.int z, .int ((nI pl) + (nI k))]) ((pIv_n (by decide) (by decide) (by decide)).trans h14)) ?_
      refine g_icmp_ge (tgt := 48) F dX4_alike_20 (by decide) (fun c4 => ?_) (fun c4 => ?_)
      · have dq : ¬ pl + k < n := fun z => absurd (show nI n ≤ nI (pl + k) by rw [← nI_add]; exact c4) (nI_ge z (by omega))
        have dn := xAl_f (t := av 13) (n := n) (p := pl) hlt (fun z => dq z.1)
        have dr : xAl (av 13) n l pl = k := by rw [hinv, dn]; rfl
        refine g_iload_n F dX4_alike_48 2 rfl rfl ?_
        exact g_iret F dX4_alike_49 (⟨by rw [dr], rfl⟩)
      · have dq : pl + k < n := by
          rcases Nat.lt_or_ge (pl + k) n with q | q
          · exact q
          · exact absurd (show nI n ≤ nI pl + nI k by rw [nI_add]; exact nI_le q (by omega)) c4
        refine g_aload_n F dX4_alike_23 0 rfl rfl ?_
        refine gf_X4_53_X4 (v := .ref (L 13)) F dX4_alike_24 mO_o rfl ?_
        refine g_aload_n F dX4_alike_27 0 rfl rfl ?_
        refine gf_X4_259_X4 (v := .int ((pIv iv pl w im) 15)) F dX4_alike_28 mO_o rfl ?_
        refine g_eqs (st' := [.int (nI pl), .ref (L 13)]) (congrArg (fun z => [Value.int z, .ref (L 13)]) pIv_15) ?_
        refine g_iload_n F dX4_alike_31 2 rfl rfl ?_
        refine g_iadd F dX4_alike_32 ?_
        refine g_ialdN (i := k + pl) F (mO_13 hN) (nadd rfl rfl) (show (pl + k) = k + pl by omega) (by omega) (by decide) dX4_alike_33 ?_
        refine g_old ho1 (fun hs5 => ?_)
        refine g_old ho2 (fun hb6 => ?_)
        refine g_aload_n F dX4_alike_34 1 rfl rfl ?_
        refine g_iload_n F dX4_alike_35 2 rfl rfl ?_
        refine g_callV F dX4_alike_36 mi_J6_charAt q2590 q1983 q1984 gc_J6 hs5 (ct_J6_charAt hs5 hb6 rfl (hi := hlt) hln) rfl rfl (nle rfl) (nle rfl) (nle rfl) (g_pur ?_) g_purX
        refine g_icmp_ne (tgt := 48) F dX4_alike_39 (by decide) (fun c7 => ?_) (fun c7 => ?_)
        · have dn := xAl_f (t := av 13) (n := n) (p := pl) hlt (fun z => c7 (by rw [sCh_k hck, Nat.add_comm]; exact z.2))
          have dr : xAl (av 13) n l pl = k := by rw [hinv, dn]; rfl
          refine g_iload_n F dX4_alike_48 2 rfl rfl ?_
          exact g_iret F dX4_alike_49 (⟨by rw [dr], rfl⟩)
        · have dt := xAl_t (t := av 13) (n := n) (p := pl) hlt dq (by rw [Nat.add_comm pl k, c7, sCh_k hck])
          have hinv2 : xAl (av 13) n l pl = (k + 1) + xAl (av 13) n (l.drop (k + 1)) (pl + (k + 1)) := by rw [hinv, dt]; omega
          refine g_iinc (lv' := [(2, .int ((nI k) + 1)), (0, .ref o), (1, .ref a)]) (v := (nI k) + 1) F dX4_alike_42 (k := 2) rfl rfl (by decide) rfl ?_
          refine g_goto (tgt := 2) F dX4_alike_45 (by decide) ?_
          refine g_lv (lv' := [(0, .ref o), (1, .ref a), (2, .int ((nI k) + 1))]) [1, 2, 0] rfl ?_
          exact g_eql (lv' := [(0, .ref o), (1, .ref a), (2, .int (nI (k + 1)))]) (by simp only [nI_1]) (ih hlt (hinv2))
  exact lp 0 (Nat.zero_le _) ((Nat.zero_add _).symm)
