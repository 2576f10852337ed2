/-! ===== THE REFERENCE: read (written by tools/model13.py) ===== -/
set_option maxHeartbeats 4000000 in
set_option maxRecDepth 100000 in
theorem ct_X4_readW {K : gK} {h : AH} {o : Nat} {L : Nat → Nat} {iv : Nat → Int32} {av : Nat → Nat → Int32} (hN : mN K o L) {n : Nat} {E : Nat × Int32 × Nat × (Nat → Int32)} (hS : gKS K) (h14 : iv 14 = nI n) (hn : n ≤ 60) (hE : rdL (av 13) n (n + 1) (riP (av 13) n 0 0 0 (av 19)) = E) (hw : E.2.1 ≠ 0 ∨ E.1 < n) : gCt K yX4_read w_X4_read 6 131 0 0 (mO K h o L iv av) [.ref o] (pR (.int 0) (mO K h o L (upd (upd (upd (upd (pIv iv E.1 E.2.1 E.2.2.1) 16 1) 14 0) 17 (nI E.1)) 7 1) (mu av 19 E.2.2.2))) := by
  refine g_meth pf_X4_read (nle rfl) (fun p e s m args below meth c F hnm htb => ?_)
  have F : gFix K p s m args meth c cX4_read 2 RX4 (some .int) := F
  refine g_eql (lv' := [(0, .ref o)]) rfl ?_
  refine g_aload_n F dX4_read_0 0 rfl rfl ?_
  refine g_iconst (v := 0) F dX4_read_1 rfl ?_
  refine gp_X4_259_X4 F dX4_read_2 mO_o hN.1 (nle rfl) rfl (fun h_e1 e1 => ?_)
  refine g_mput (iv2 := upd iv 15 0) e1 rfl ?_
  refine g_aload_n F dX4_read_5 0 rfl rfl ?_
  refine g_iconst (v := 0) F dX4_read_6 rfl ?_
  refine gp_X4_255_X4 F dX4_read_7 (by first | rfl | decide | (split <;> rfl)) (by first | rfl | decide | (split <;> rfl)) mO_o hN.1 (nle rfl) rfl (fun h_e2 e2 => ?_)
  refine g_mput (iv2 := upd (upd iv 15 0) 16 0) e2 rfl ?_
  refine g_aload_n F dX4_read_10 0 rfl rfl ?_
  refine g_iconst (v := 0) F dX4_read_11 rfl ?_
  refine gp_X4_277_X4 F dX4_read_12 mO_o hN.1 (nle rfl) rfl (fun h_e3 e3 => ?_)
  refine g_mput (iv2 := upd (upd (upd iv 15 0) 16 0) 20 0) e3 rfl ?_
  refine g_eqh (h' := (mO K h o L (pIv iv 0 0 0) (mu av 19 (av 19)))) (by rw [mu_id]; rfl) ?_
  refine g_aload_n F dX4_read_15 0 rfl rfl ?_
  have t4 := ct_X4_readItemA (h := h) (iv := iv) (av := av) (it := av 19) (pl := 0) (im := 0) (w := 0) hN hS h14 hn (by decide) (by decide) (.inl rfl)
  obtain ⟨S0, hS0⟩ : ∃ S, S = (riP (av 13) n 0 0 0 (av 19)) := ⟨_, rfl⟩
  rw [← hS0] at t4
  refine g_callV F dX4_read_16 mi_X4_readItem q2641 q2643 qs61 gc_X4 mO_o t4 rfl rfl (nle rfl) (nle rfl) (nle rfl) (g_purv ?_) g_purvX
  have lp : ∀ (fu : Nat) (S : Nat × Int32 × Nat × (Nat → Int32)), S.1 ≤ n → n < S.1 + fu → S.2.2.1 ≤ S.1 → (S.2.1 = 0 ∨ S.2.1 = 1) → rdL (av 13) n fu S = E → G K p e s m args below meth c (gRm 6 131 0 0) 2 (pR (.int 0) (mO K h o L (upd (upd (upd (upd (pIv iv E.1 E.2.1 E.2.2.1) 16 1) 14 0) 17 (nI E.1)) 7 1) (mu av 19 E.2.2.2))) (mO K h o L (pIv iv S.1 S.2.1 S.2.2.1) (mu av 19 S.2.2.2)) 0 0 19 [(0, .ref o)] [] := by
    intro fu
    induction fu with
    | zero => exact fun S z1 z2 => absurd z2 (by omega)
    | succ fu ih =>
    intro S z1 z2 z3 z4 z5
    refine g_aload_n F dX4_read_19 0 rfl rfl ?_
    refine g_bipush (v := 59) F dX4_read_20 rfl ?_
    refine g_bipush (v := 59) F dX4_read_22 rfl ?_
    have t5 := ct_X4_isHere (h := h) (iv := iv) (av := mu av 19 S.2.2.2) (pl := S.1) (w := S.2.1) (im := S.2.2.1) (lo := 59) (hi := 59) hN h14 hn (by omega)
    refine g_callV F dX4_read_24 mi_X4_isHere q2661 q2663 qs66 gc_X4 mO_o t5 rfl rfl (nle rfl) (nle rfl) (nle rfl) (g_pur ?_) g_purX
    refine g_if_eq (tgt := 56) F dX4_read_27 (by decide) (fun c6 => ?_) (fun c6 => ?_)
    · have d0 : hrP (av 13) n 59 59 S.1 S.2.1 = 0 := c6
      have hSE : S = E := by rw [← z5, rdL_0 d0]
      subst hSE
      refine g_aload_n F dX4_read_56 0 rfl rfl ?_
      refine g_aload_n F dX4_read_57 0 rfl rfl ?_
      refine gf_X4_255_X4 (v := .int ((pIv iv S.1 S.2.1 S.2.2.1) 16)) F dX4_read_58 mO_o rfl ?_
      refine g_eqs (st' := [.int S.2.1, .ref o]) (congrArg (fun z => [Value.int z, .ref o]) pIv_16) ?_
      refine g_if_ne (tgt := 75) F dX4_read_61 (by decide) (fun c7 => ?_) (fun c7 => ?_)
      · refine g_iconst (v := 1) F dX4_read_75 rfl ?_
        refine g_goto (tgt := 80) F dX4_read_76 (by decide) ?_
        refine gp_X4_255_X4 F dX4_read_80 (by first | rfl | decide | (split <;> rfl)) (by first | rfl | decide | (split <;> rfl)) mO_o hN.1 (nle rfl) rfl (fun h_e8 e8 => ?_)
        refine g_mput (iv2 := upd (pIv iv S.1 S.2.1 S.2.2.1) 16 1) e8 rfl ?_
        refine g_aload_n F dX4_read_83 0 rfl rfl ?_
        refine g_iconst (v := 0) F dX4_read_84 rfl ?_
        refine gp_X4_253_X4 F dX4_read_85 mO_o hN.1 (nle rfl) rfl (fun h_e9 e9 => ?_)
        refine g_mput (iv2 := upd (upd (pIv iv S.1 S.2.1 S.2.2.1) 16 1) 14 0) e9 rfl ?_
        refine g_aload_n F dX4_read_88 0 rfl rfl ?_
        refine gf_X4_255_X4 (v := .int 1) F dX4_read_89 mO_o rfl ?_
        refine g_if_eq (tgt := 109) F dX4_read_92 (by decide) (fun c10 => absurd c10 (by decide)) (fun c10 => ?_)
        refine g_aload_n F dX4_read_95 0 rfl rfl ?_
        refine g_aload_n F dX4_read_96 0 rfl rfl ?_
        refine gf_X4_259_X4 (v := .int (nI (S.1))) F dX4_read_97 mO_o rfl ?_
        refine gp_X4_56_X4 F dX4_read_100 mO_o hN.1 (nle rfl) rfl (fun h_e11 e11 => ?_)
        refine g_mput (iv2 := upd (upd (upd (pIv iv S.1 S.2.1 S.2.2.1) 16 1) 14 0) 17 (nI (S.1))) e11 rfl ?_
        refine g_aload_n F dX4_read_103 0 rfl rfl ?_
        refine g_iconst (v := 1) F dX4_read_104 rfl ?_
        refine g_callV F dX4_read_105 mi_X4_fails q2349 q2351 qs26 gc_X4 mO_o (ct_X4_fails hN) rfl rfl (nle rfl) (nle rfl) (nle rfl) (g_pur ?_) g_purX
        exact g_iret F dX4_read_108 (⟨rfl, rfl⟩)
      · have dw : S.2.1 = 0 := c7
        refine g_aload_n F dX4_read_64 0 rfl rfl ?_
        refine gf_X4_259_X4 (v := .int ((pIv iv S.1 S.2.1 S.2.2.1) 15)) F dX4_read_65 mO_o rfl ?_
        refine g_eqs (st' := [.int (nI (S.1)), .ref o]) (congrArg (fun z => [Value.int z, .ref o]) pIv_15) ?_
        refine g_aload_n F dX4_read_68 0 rfl rfl ?_
        refine gf_X4_253_X4 (v := .int ((pIv iv S.1 S.2.1 S.2.2.1) 14)) F dX4_read_69 mO_o rfl ?_
        refine g_eqs (st' := [.int (nI n), .int (nI (S.1)), .ref o]) (congrArg (fun z => [Value.int z, .int (nI (S.1)), .ref o]) ((pIv_n (by decide) (by decide) (by decide)).trans h14)) ?_
        refine g_icmp_ge (tgt := 79) F dX4_read_72 (by decide) (fun c12 => absurd (hw.resolve_left (fun z => z dw)) (fun z => nI_ge z (by omega) c12)) (fun c12 => ?_)
        refine g_iconst (v := 1) F dX4_read_75 rfl ?_
        refine g_goto (tgt := 80) F dX4_read_76 (by decide) ?_
        refine gp_X4_255_X4 F dX4_read_80 (by first | rfl | decide | (split <;> rfl)) (by first | rfl | decide | (split <;> rfl)) mO_o hN.1 (nle rfl) rfl (fun h_e13 e13 => ?_)
        refine g_mput (iv2 := upd (pIv iv S.1 S.2.1 S.2.2.1) 16 1) e13 rfl ?_
        refine g_aload_n F dX4_read_83 0 rfl rfl ?_
        refine g_iconst (v := 0) F dX4_read_84 rfl ?_
        refine gp_X4_253_X4 F dX4_read_85 mO_o hN.1 (nle rfl) rfl (fun h_e14 e14 => ?_)
        refine g_mput (iv2 := upd (upd (pIv iv S.1 S.2.1 S.2.2.1) 16 1) 14 0) e14 rfl ?_
        refine g_aload_n F dX4_read_88 0 rfl rfl ?_
        refine gf_X4_255_X4 (v := .int 1) F dX4_read_89 mO_o rfl ?_
        refine g_if_eq (tgt := 109) F dX4_read_92 (by decide) (fun c15 => absurd c15 (by decide)) (fun c15 => ?_)
        refine g_aload_n F dX4_read_95 0 rfl rfl ?_
        refine g_aload_n F dX4_read_96 0 rfl rfl ?_
        refine gf_X4_259_X4 (v := .int (nI (S.1))) F dX4_read_97 mO_o rfl ?_
        refine gp_X4_56_X4 F dX4_read_100 mO_o hN.1 (nle rfl) rfl (fun h_e16 e16 => ?_)
        refine g_mput (iv2 := upd (upd (upd (pIv iv S.1 S.2.1 S.2.2.1) 16 1) 14 0) 17 (nI (S.1))) e16 rfl ?_
        refine g_aload_n F dX4_read_103 0 rfl rfl ?_
        refine g_iconst (v := 1) F dX4_read_104 rfl ?_
        refine g_callV F dX4_read_105 mi_X4_fails q2349 q2351 qs26 gc_X4 mO_o (ct_X4_fails hN) rfl rfl (nle rfl) (nle rfl) (nle rfl) (g_pur ?_) g_purX
        exact g_iret F dX4_read_108 (⟨rfl, rfl⟩)
    · have dh : hrP (av 13) n 59 59 S.1 S.2.1 ≠ 0 := c6
      have dp : S.1 + 1 ≤ n := (hrP_p dh).2.1
      refine g_aload_n F dX4_read_30 0 rfl rfl ?_
      refine g_dup F dX4_read_31 rfl ?_
      refine gf_X4_259_X4 (v := .int (nI (S.1))) F dX4_read_32 mO_o rfl ?_
      refine g_iconst (v := 1) F dX4_read_35 rfl ?_
      refine g_iadd F dX4_read_36 ?_
      refine gp_X4_259_X4 F dX4_read_37 mO_o hN.1 (nle rfl) rfl (fun h_e17 e17 => ?_)
      refine g_mput (iv2 := upd (pIv iv S.1 S.2.1 S.2.2.1) 15 ((nI (S.1)) + 1)) e17 rfl ?_
      refine g_eqh (h' := (mO K h o L (pIv iv (S.1 + 1) S.2.1 S.2.2.1) (mu av 19 S.2.2.2))) (by rw [nI_1, pIv_p]) ?_
      refine g_aload_n F dX4_read_40 0 rfl rfl ?_
      refine g_bipush (v := 32) F dX4_read_41 rfl ?_
      refine g_bipush (v := 32) F dX4_read_43 rfl ?_
      have t18 := ct_X4_sign (h := h) (iv := iv) (av := mu av 19 S.2.2.2) (pl := S.1 + 1) (w := S.2.1) (im := S.2.2.1) (lo := 32) (hi := 32) hN h14 hn (by omega)
      obtain ⟨S1, hS1⟩ : ∃ r, r = sgP (av 13) n 32 32 (S.1 + 1) S.2.1 := ⟨_, rfl⟩
      have t18 : gCt K yX4_sign w_X4_sign 2 44 0 0 (mO K h o L (pIv iv (S.1 + 1) S.2.1 S.2.2.1) (mu av 19 S.2.2.2)) [.ref o, .int 32, .int 32] (pR (.int S1.2.2) (mO K h o L (pIv iv S1.1 S1.2.1 S.2.2.1) (mu av 19 S.2.2.2))) := by rw [hS1]; exact t18
      have hp1 := sgP_n (t := av 13) (n := n) (lo := 32) (hi := 32) (p := S.1 + 1) (w := S.2.1) dp
      have hw1 := sgP_w (t := av 13) (n := n) (lo := 32) (hi := 32) (p := S.1 + 1) (w := S.2.1)
      rw [← hS1] at hp1 hw1
      refine g_callV F dX4_read_45 mi_X4_sign q2657 q2659 qs65 gc_X4 mO_o t18 rfl rfl (nle rfl) (nle rfl) (nle rfl) (g_pur ?_) g_purX
      refine g_istore_n (lv' := [(1, .int S1.2.2), (0, .ref o)]) F dX4_read_48 rfl (by decide) rfl ?_
      refine g_aload_n F dX4_read_49 1 rfl rfl ?_
      have t19 := ct_X4_readItemA (h := h) (iv := iv) (av := av) (it := S.2.2.2) (pl := S1.1) (im := S.2.2.1) (w := S1.2.1) hN hS h14 hn (by omega) (by omega) hw1
      obtain ⟨S2, hS2⟩ : ∃ r, r = riP (av 13) n S1.1 S1.2.1 S.2.2.1 S.2.2.2 := ⟨_, rfl⟩
      have hq := riP_n (t := av 13) (n := n) (p := S1.1) (m := S.2.2.1) (w := S1.2.1) (it := S.2.2.2) hp1.1 (by omega)
      rw [← hS2] at t19 hq
      refine g_callV F dX4_read_50 mi_X4_readItem q2641 q2643 qs61 gc_X4 mO_o t19 rfl rfl (nle rfl) (nle rfl) (nle rfl) (g_purv ?_) g_purvX
      refine g_goto (tgt := 19) F dX4_read_53 (by decide) ?_
      refine g_lv (lv' := [(0, .ref o)]) [1] rfl ?_
      exact ih S2 hq.1 (by omega) hq.2.2 (by rw [hS2]; exact riP_w01) (by rw [← z5, rdL_s dh, ← hS1, ← hS2])
  have q0 := riP_n (t := av 13) (n := n) (p := 0) (m := 0) (w := 0) (it := av 19) (Nat.zero_le _) (Nat.le_refl _)
  rw [← hS0] at q0 hE
  exact lp (n + 1) S0 q0.1 (by omega) q0.2.2 (by rw [hS0]; exact riP_w01) hE
set_option maxHeartbeats 4000000 in
set_option maxRecDepth 100000 in
theorem ct_X4_readO {K : gK} {h : AH} {o : Nat} {L : Nat → Nat} {iv : Nat → Int32} {av : Nat → Nat → Int32} (hN : mN K o L) {n : Nat} {E : Nat × Int32 × Nat × (Nat → Int32)} (hS : gKS K) (h14 : iv 14 = nI n) (hn : n ≤ 60) (hE : rdL (av 13) n (n + 1) (riP (av 13) n 0 0 0 (av 19)) = E) {RES : (Nat → Int32) ⊕ (Nat × Nat × Option (Int32 × Int32))} (hw0 : E.2.1 = 0) (hl : ¬ E.1 < n) (hit : ∀ k, k < E.2.2.1 → ∃ j, j < 9 ∧ E.2.2.2 (3 * k) = nI j) {nb nc nh nq : Nat} (hC : mC (av 0) nb nc nh nq) (hL : mL (av 0) nb nc nq) (hz : mZ av) {np : Nat} (h6 : iv 6 = nI np) (hnp : np ≤ 8) (hRES : xSeq nb nc nh nq E.2.2.2 E.2.2.1 0 (av 0) = RES) : gCt K yX4_read w_X4_read 7 158 0 0 (mO K h o L iv av) [.ref o] (rdPost K h o L (rdIV iv E) (rdBV av E) np E.2.2.1 RES) := by
  refine g_meth pf_X4_read (nle rfl) (fun p e s m args below meth c F hnm htb => ?_)
  have F : gFix K p s m args meth c cX4_read 2 RX4 (some .int) := F
  refine g_eql (lv' := [(0, .ref o)]) rfl ?_
  refine g_aload_n F dX4_read_0 0 rfl rfl ?_
  refine g_iconst (v := 0) F dX4_read_1 rfl ?_
  refine gp_X4_259_X4 F dX4_read_2 mO_o hN.1 (nle rfl) rfl (fun h_e1 e1 => ?_)
  refine g_mput (iv2 := upd iv 15 0) e1 rfl ?_
  refine g_aload_n F dX4_read_5 0 rfl rfl ?_
  refine g_iconst (v := 0) F dX4_read_6 rfl ?_
  refine gp_X4_255_X4 F dX4_read_7 (by first | rfl | decide | (split <;> rfl)) (by first | rfl | decide | (split <;> rfl)) mO_o hN.1 (nle rfl) rfl (fun h_e2 e2 => ?_)
  refine g_mput (iv2 := upd (upd iv 15 0) 16 0) e2 rfl ?_
  refine g_aload_n F dX4_read_10 0 rfl rfl ?_
  refine g_iconst (v := 0) F dX4_read_11 rfl ?_
  refine gp_X4_277_X4 F dX4_read_12 mO_o hN.1 (nle rfl) rfl (fun h_e3 e3 => ?_)
  refine g_mput (iv2 := upd (upd (upd iv 15 0) 16 0) 20 0) e3 rfl ?_
  refine g_eqh (h' := (mO K h o L (pIv iv 0 0 0) (mu av 19 (av 19)))) (by rw [mu_id]; rfl) ?_
  refine g_aload_n F dX4_read_15 0 rfl rfl ?_
  have t4 := ct_X4_readItemA (h := h) (iv := iv) (av := av) (it := av 19) (pl := 0) (im := 0) (w := 0) hN hS h14 hn (by decide) (by decide) (.inl rfl)
  obtain ⟨S0, hS0⟩ : ∃ S, S = (riP (av 13) n 0 0 0 (av 19)) := ⟨_, rfl⟩
  rw [← hS0] at t4
  refine g_callV F dX4_read_16 mi_X4_readItem q2641 q2643 qs61 gc_X4 mO_o t4 rfl rfl (nle rfl) (nle rfl) (nle rfl) (g_purv ?_) g_purvX
  have lp : ∀ (fu : Nat) (S : Nat × Int32 × Nat × (Nat → Int32)), S.1 ≤ n → n < S.1 + fu → S.2.2.1 ≤ S.1 → (S.2.1 = 0 ∨ S.2.1 = 1) → rdL (av 13) n fu S = E → G K p e s m args below meth c (gRm 7 158 0 0) 2 (rdPost K h o L (rdIV iv E) (rdBV av E) np E.2.2.1 RES) (mO K h o L (pIv iv S.1 S.2.1 S.2.2.1) (mu av 19 S.2.2.2)) 0 0 19 [(0, .ref o)] [] := by
    intro fu
    induction fu with
    | zero => exact fun S z1 z2 => absurd z2 (by omega)
    | succ fu ih =>
    intro S z1 z2 z3 z4 z5
    refine g_aload_n F dX4_read_19 0 rfl rfl ?_
    refine g_bipush (v := 59) F dX4_read_20 rfl ?_
    refine g_bipush (v := 59) F dX4_read_22 rfl ?_
    have t5 := ct_X4_isHere (h := h) (iv := iv) (av := mu av 19 S.2.2.2) (pl := S.1) (w := S.2.1) (im := S.2.2.1) (lo := 59) (hi := 59) hN h14 hn (by omega)
    refine g_callV F dX4_read_24 mi_X4_isHere q2661 q2663 qs66 gc_X4 mO_o t5 rfl rfl (nle rfl) (nle rfl) (nle rfl) (g_pur ?_) g_purX
    refine g_if_eq (tgt := 56) F dX4_read_27 (by decide) (fun c6 => ?_) (fun c6 => ?_)
    · have d0 : hrP (av 13) n 59 59 S.1 S.2.1 = 0 := c6
      have hSE : S = E := by rw [← z5, rdL_0 d0]
      subst hSE
      refine g_aload_n F dX4_read_56 0 rfl rfl ?_
      refine g_aload_n F dX4_read_57 0 rfl rfl ?_
      refine gf_X4_255_X4 (v := .int ((pIv iv S.1 S.2.1 S.2.2.1) 16)) F dX4_read_58 mO_o rfl ?_
      refine g_eqs (st' := [.int S.2.1, .ref o]) (congrArg (fun z => [Value.int z, .ref o]) pIv_16) ?_
      refine g_if_ne (tgt := 75) F dX4_read_61 (by decide) (fun c7 => absurd hw0 c7) (fun c7 => ?_)
      refine g_aload_n F dX4_read_64 0 rfl rfl ?_
      refine gf_X4_259_X4 (v := .int ((pIv iv S.1 S.2.1 S.2.2.1) 15)) F dX4_read_65 mO_o rfl ?_
      refine g_eqs (st' := [.int (nI (S.1)), .ref o]) (congrArg (fun z => [Value.int z, .ref o]) pIv_15) ?_
      refine g_aload_n F dX4_read_68 0 rfl rfl ?_
      refine gf_X4_253_X4 (v := .int ((pIv iv S.1 S.2.1 S.2.2.1) 14)) F dX4_read_69 mO_o rfl ?_
      refine g_eqs (st' := [.int (nI n), .int (nI (S.1)), .ref o]) (congrArg (fun z => [Value.int z, .int (nI (S.1)), .ref o]) ((pIv_n (by decide) (by decide) (by decide)).trans h14)) ?_
      refine g_icmp_ge (tgt := 79) F dX4_read_72 (by decide) (fun c8 => ?_) (fun c8 => absurd (nI_le (a := n) (b := S.1) (by omega) (by omega)) c8)
      refine g_iconst (v := 0) F dX4_read_79 rfl ?_
      refine gp_X4_255_X4 F dX4_read_80 (by first | rfl | decide | (split <;> rfl)) (by first | rfl | decide | (split <;> rfl)) mO_o hN.1 (nle rfl) rfl (fun h_e9 e9 => ?_)
      refine g_mput (iv2 := upd (pIv iv S.1 S.2.1 S.2.2.1) 16 0) e9 rfl ?_
      refine g_aload_n F dX4_read_83 0 rfl rfl ?_
      refine g_iconst (v := 0) F dX4_read_84 rfl ?_
      refine gp_X4_253_X4 F dX4_read_85 mO_o hN.1 (nle rfl) rfl (fun h_e10 e10 => ?_)
      refine g_mput (iv2 := upd (upd (pIv iv S.1 S.2.1 S.2.2.1) 16 0) 14 0) e10 rfl ?_
      refine g_aload_n F dX4_read_88 0 rfl rfl ?_
      refine gf_X4_255_X4 (v := .int 0) F dX4_read_89 mO_o rfl ?_
      refine g_if_eq (tgt := 109) F dX4_read_92 (by decide) (fun c11 => ?_) (fun c11 => absurd c11 (by decide))
      refine g_aload_n F dX4_read_109 0 rfl rfl ?_
      have t12 := ct_X4_keepZ (h := h) (iv := upd (upd (pIv iv S.1 S.2.1 S.2.2.1) 16 0) 14 0) (av := mu av 19 S.2.2.2) hN hz
      refine g_callV F dX4_read_110 mi_X4_keep q2341 q2343 qs25 gc_X4 mO_o t12 rfl rfl (nle rfl) (nle rfl) (nle rfl) (g_purv ?_) g_purvX
      refine g_iconst (v := 0) F dX4_read_113 rfl ?_
      refine g_istore_n (lv' := [(1, .int 0), (0, .ref o)]) F dX4_read_114 rfl (by decide) rfl ?_
      refine g_lv (lv' := [(0, .ref o), (1, .int 0)]) [1, 0] rfl ?_
      refine g_eqh (h' := mO K h o L (rdIV iv S) (mu (rdBV av S) 0 (av 0))) (by rw [show mu (rdBV av S) 0 (av 0) = rdBV av S from mu_id (av := rdBV av S) (j := 0)]; rfl) ?_
      have lp2 : ∀ (d k : Nat) (f : Nat → Int32), k + d = S.2.2.1 → mC f nb nc nh nq → mL f nb nc nq → (∀ i, 131 ≤ i → f i = 0) → xSeq nb nc nh nq S.2.2.2 d k f = RES → G K p e s m args below meth c (gRm 7 158 0 0) 2 (rdPost K h o L (rdIV iv S) (rdBV av S) np S.2.2.1 RES) (mO K h o L (rdIV iv S) (mu (rdBV av S) 0 f)) 0 0 115 [(0, .ref o), (1, .int (nI k))] [] := by
        intro d
        induction d with
        | zero =>
          intro k f y1 y2 y3 y4 y5
          refine g_iload_n F dX4_read_115 1 rfl rfl ?_
          refine g_aload_n F dX4_read_116 0 rfl rfl ?_
          refine gf_X4_277_X4 (v := .int ((rdIV iv S) 20)) F dX4_read_117 mO_o rfl ?_
          refine g_eqs (st' := [.int (nI (S.2.2.1)), .int (nI k)]) (congrArg (fun z => [Value.int z, .int (nI k)]) rdIV_20) ?_
          refine g_icmp_ge (tgt := 157) F dX4_read_120 (by decide) (fun c13 => ?_) (fun c13 => absurd (nI_le (a := S.2.2.1) (b := k) (by omega) (by omega)) c13)
          refine g_aload_n F dX4_read_157 0 rfl rfl ?_
          refine g_aload_n F dX4_read_158 0 rfl rfl ?_
          refine gf_X4_277_X4 (v := .int ((rdIV iv S) 20)) F dX4_read_159 mO_o rfl ?_
          refine g_eqs (st' := [.int (nI (S.2.2.1)), .ref o]) (congrArg (fun z => [Value.int z, .ref o]) rdIV_20) ?_
          have t14 := ct_X4_endsO (h := h) (iv := rdIV iv S) (av := mu (rdBV av S) 0 f) (x := nI S.2.2.1) (np := np) hN rdIV_7 (rdIV_6.trans h6) hnp
          refine g_callV F dX4_read_162 mi_X4_ends q2353 q2355 qs27 gc_X4 mO_o t14 rfl rfl (nle rfl) (nle rfl) (nle rfl) (g_pur ?_) g_purX
          have hres : RES = .inl f := by rw [← y5]; rfl
          rw [hres]
          exact g_iret F dX4_read_165 (⟨rfl, rfl⟩)
        | succ d ih =>
          intro k f y1 y2 y3 y4 y5
          refine g_iload_n F dX4_read_115 1 rfl rfl ?_
          refine g_aload_n F dX4_read_116 0 rfl rfl ?_
          refine gf_X4_277_X4 (v := .int ((rdIV iv S) 20)) F dX4_read_117 mO_o rfl ?_
          refine g_eqs (st' := [.int (nI (S.2.2.1)), .int (nI k)]) (congrArg (fun z => [Value.int z, .int (nI k)]) rdIV_20) ?_
          refine g_icmp_ge (tgt := 157) F dX4_read_120 (by decide) (fun c15 => absurd c15 (nI_ge (by omega) (by omega))) (fun c15 => ?_)
          refine g_aload_n F dX4_read_123 0 rfl rfl ?_
          refine g_iload_n F dX4_read_124 1 rfl rfl ?_
          obtain ⟨j, hj, hjk⟩ := hit k (by omega)
          have t16 := ct_X4_does (h := h) (iv := rdIV iv S) (av := mu (rdBV av S) 0 f) (i := k) (j := j) hN (by omega) hjk hj y2 y3
          have t17 : gCt K yX4_does w_X4_does 6 134 0 0 (mO K h o L (rdIV iv S) (mu (rdBV av S) 0 f)) [.ref o, .int (nI k)] (pV (mO K h o L (xIv (rdIV iv S) (xDo f nb nc nh nq j (S.2.2.2 (1 + 3 * k)) (S.2.2.2 (2 + 3 * k)))) (xAv (mu (rdBV av S) 0 f) (xDo f nb nc nh nq j (S.2.2.2 (1 + 3 * k)) (S.2.2.2 (2 + 3 * k)))))) := t16
          have hjc : (S.2.2.2 (3 * k)).toNatClampNeg = j := by rw [hjk, nI_clamp (by omega)]
          refine g_callV F dX4_read_125 mi_X4_does q2665 q2667 qs67 gc_X4 mO_o t17 rfl rfl (nle rfl) (nle rfl) (nle rfl) (g_purv ?_) g_purvX
          rcases hr : xDo f nb nc nh nq j (S.2.2.2 (1 + 3 * k)) (S.2.2.2 (2 + 3 * k)) with ⟨a, f'⟩ | ⟨pp, ee⟩
          · have hr2 : xDo f nb nc nh nq (S.2.2.2 (3 * k)).toNatClampNeg (S.2.2.2 (1 + 3 * k)) (S.2.2.2 (2 + 3 * k)) = .inl (a, f') := by rw [hjc]; exact hr
            have hk3 := xDo_C y2 y3 hr
            refine g_eqh (h' := (mO K h o L (rdIV iv S) (mu (rdBV av S) 0 f'))) (by show mO K h o L _ (mu (mu (rdBV av S) 0 f) 0 f') = _; rw [mu_mu]; rfl) ?_
            refine g_aload_n F dX4_read_128 0 rfl rfl ?_
            refine gf_X4_69_X4 (v := .int ((rdIV iv S) 7)) F dX4_read_129 mO_o rfl ?_
            refine g_eqs (st' := [.int 0]) (congrArg (fun z => [Value.int z]) rdIV_7) ?_
            refine g_if_le (tgt := 151) F dX4_read_132 (by decide) (fun c18 => ?_) (fun c18 => absurd c18 (by decide))
            refine g_iinc (lv' := [(1, .int ((nI k) + 1)), (0, .ref o)]) (v := (nI k) + 1) F dX4_read_151 (k := 1) rfl rfl (by decide) rfl ?_
            refine g_goto (tgt := 115) F dX4_read_154 (by decide) ?_
            refine g_lv (lv' := [(0, .ref o), (1, .int ((nI k) + 1))]) [1, 0] rfl ?_
            exact g_eql (lv' := [(0, .ref o), (1, .int (nI (k + 1)))]) (by rw [nI_1]) (ih (k + 1) f' (by omega) hk3.1 hk3.2.1 (fun i hi => by rw [hk3.2.2 i hi]; exact y4 i hi) (by rw [← y5, xSeq_l hr2]))
          · have hr2 : xDo f nb nc nh nq (S.2.2.2 (3 * k)).toNatClampNeg (S.2.2.2 (1 + 3 * k)) (S.2.2.2 (2 + 3 * k)) = .inr (pp, ee) := by rw [hjc]; exact hr
            have hok := xDo_ok pp ee hr
            refine g_eqh (h' := (mO K h o L (xIv (rdIV iv S) (.inr (pp, ee))) (mu (rdBV av S) 0 f))) rfl ?_
            refine g_aload_n F dX4_read_128 0 rfl rfl ?_
            refine gf_X4_69_X4 (v := .int ((xIv (rdIV iv S) (.inr (pp, ee))) 7)) F dX4_read_129 mO_o rfl ?_
            refine g_eqs (st' := [.int (nI pp)]) (congrArg (fun z => [Value.int z]) xIv_7) ?_
            refine g_if_le (tgt := 151) F dX4_read_132 (by decide) (fun c19 => absurd c19 (nI_nle (by omega) (by omega))) (fun c19 => ?_)
            refine g_aload_n F dX4_read_135 0 rfl rfl ?_
            refine g_iload_n F dX4_read_136 1 rfl rfl ?_
            refine gp_X4_60_X4 F dX4_read_137 mO_o hN.1 (nle rfl) rfl (fun h_e20 e20 => ?_)
            refine g_mput (iv2 := upd (xIv (rdIV iv S) (.inr (pp, ee))) 18 (nI k)) e20 rfl ?_
            refine g_aload_n F dX4_read_140 0 rfl rfl ?_
            refine g_iconst (v := 2) F dX4_read_141 rfl ?_
            refine gp_X4_69_X4 F dX4_read_142 mO_o hN.1 (nle rfl) rfl (fun h_e21 e21 => ?_)
            refine g_mput (iv2 := upd (upd (xIv (rdIV iv S) (.inr (pp, ee))) 18 (nI k)) 7 2) e21 rfl ?_
            refine g_aload_n F dX4_read_145 0 rfl rfl ?_
            refine g_iconst (v := 0) F dX4_read_146 rfl ?_
            have t22 := ct_X4_endsX (h := h) (iv := upd (upd (xIv (rdIV iv S) (.inr (pp, ee))) 18 (nI k)) 7 2) (av := mu (rdBV av S) 0 f) (x := 0) (p := 2) hN pk_us (by decide)
            refine g_callV F dX4_read_147 mi_X4_ends q2353 q2355 qs27 gc_X4 mO_o t22 rfl rfl (nle rfl) (nle rfl) (nle rfl) (g_pur ?_) g_purX
            have hres : RES = .inr (k, pp, ee) := by rw [← y5, xSeq_r hr2]
            rw [hres]
            exact g_iret F dX4_read_150 (⟨rfl, by show mO K h o L _ (mu (mu (rdBV av S) 0 f) 0 (va_cpy (av 0) f 0 0 131)) = _; rw [cpy_full hz.1 y4, mu_mu]; exact congrArg (mO K h o L _) (mu_id (av := rdBV av S) (j := 0))⟩)
      exact lp2 S.2.2.1 0 (av 0) (Nat.zero_add _) hC hL hz.1 hRES
    · have dh : hrP (av 13) n 59 59 S.1 S.2.1 ≠ 0 := c6
      have dp : S.1 + 1 ≤ n := (hrP_p dh).2.1
      refine g_aload_n F dX4_read_30 0 rfl rfl ?_
      refine g_dup F dX4_read_31 rfl ?_
      refine gf_X4_259_X4 (v := .int (nI (S.1))) F dX4_read_32 mO_o rfl ?_
      refine g_iconst (v := 1) F dX4_read_35 rfl ?_
      refine g_iadd F dX4_read_36 ?_
      refine gp_X4_259_X4 F dX4_read_37 mO_o hN.1 (nle rfl) rfl (fun h_e23 e23 => ?_)
      refine g_mput (iv2 := upd (pIv iv S.1 S.2.1 S.2.2.1) 15 ((nI (S.1)) + 1)) e23 rfl ?_
      refine g_eqh (h' := (mO K h o L (pIv iv (S.1 + 1) S.2.1 S.2.2.1) (mu av 19 S.2.2.2))) (by rw [nI_1, pIv_p]) ?_
      refine g_aload_n F dX4_read_40 0 rfl rfl ?_
      refine g_bipush (v := 32) F dX4_read_41 rfl ?_
      refine g_bipush (v := 32) F dX4_read_43 rfl ?_
      have t24 := ct_X4_sign (h := h) (iv := iv) (av := mu av 19 S.2.2.2) (pl := S.1 + 1) (w := S.2.1) (im := S.2.2.1) (lo := 32) (hi := 32) hN h14 hn (by omega)
      obtain ⟨S1, hS1⟩ : ∃ r, r = sgP (av 13) n 32 32 (S.1 + 1) S.2.1 := ⟨_, rfl⟩
      have t24 : gCt K yX4_sign w_X4_sign 2 44 0 0 (mO K h o L (pIv iv (S.1 + 1) S.2.1 S.2.2.1) (mu av 19 S.2.2.2)) [.ref o, .int 32, .int 32] (pR (.int S1.2.2) (mO K h o L (pIv iv S1.1 S1.2.1 S.2.2.1) (mu av 19 S.2.2.2))) := by rw [hS1]; exact t24
      have hp1 := sgP_n (t := av 13) (n := n) (lo := 32) (hi := 32) (p := S.1 + 1) (w := S.2.1) dp
      have hw1 := sgP_w (t := av 13) (n := n) (lo := 32) (hi := 32) (p := S.1 + 1) (w := S.2.1)
      rw [← hS1] at hp1 hw1
      refine g_callV F dX4_read_45 mi_X4_sign q2657 q2659 qs65 gc_X4 mO_o t24 rfl rfl (nle rfl) (nle rfl) (nle rfl) (g_pur ?_) g_purX
      refine g_istore_n (lv' := [(1, .int S1.2.2), (0, .ref o)]) F dX4_read_48 rfl (by decide) rfl ?_
      refine g_aload_n F dX4_read_49 1 rfl rfl ?_
      have t25 := ct_X4_readItemA (h := h) (iv := iv) (av := av) (it := S.2.2.2) (pl := S1.1) (im := S.2.2.1) (w := S1.2.1) hN hS h14 hn (by omega) (by omega) hw1
      obtain ⟨S2, hS2⟩ : ∃ r, r = riP (av 13) n S1.1 S1.2.1 S.2.2.1 S.2.2.2 := ⟨_, rfl⟩
      have hq := riP_n (t := av 13) (n := n) (p := S1.1) (m := S.2.2.1) (w := S1.2.1) (it := S.2.2.2) hp1.1 (by omega)
      rw [← hS2] at t25 hq
      refine g_callV F dX4_read_50 mi_X4_readItem q2641 q2643 qs61 gc_X4 mO_o t25 rfl rfl (nle rfl) (nle rfl) (nle rfl) (g_purv ?_) g_purvX
      refine g_goto (tgt := 19) F dX4_read_53 (by decide) ?_
      refine g_lv (lv' := [(0, .ref o)]) [1] rfl ?_
      exact ih S2 hq.1 (by omega) hq.2.2 (by rw [hS2]; exact riP_w01) (by rw [← z5, rdL_s dh, ← hS1, ← hS2])
  have q0 := riP_n (t := av 13) (n := n) (p := 0) (m := 0) (w := 0) (it := av 19) (Nat.zero_le _) (Nat.le_refl _)
  rw [← hS0] at q0 hE
  exact lp (n + 1) S0 q0.1 (by omega) q0.2.2 (by rw [hS0]; exact riP_w01) hE
