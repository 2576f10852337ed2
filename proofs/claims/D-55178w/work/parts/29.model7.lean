/-! ===== THE REFERENCE: cue, append (written by tools/model7.py) ===== -/
set_option maxHeartbeats 4000000 in
set_option maxRecDepth 100000 in
theorem ct_X4_cue {K : gK} {h : AH} {o : Nat} {L : Nat → Nat} {iv : Nat → Int32} {av : Nat → Nat → Int32} (hN : mN K o L) {x y z u : Int32} {nb nc nh nq : Nat} (hC : mC (av 0) nb nc nh nq) (hL : mL (av 0) nb nc nq) (hz : mZ av) {np : Nat} (h6 : iv 6 = nI np) (hnp : np ≤ 8) : gCt K yX4_cue w_X4_cue 2 61 0 0 (mO K h o L iv av) [.ref o, .int x, .int y, .int z, .int u] (pR (.int (xRet (xCue (av 0) nb nq x y z u))) (mO K h o L (xSIv iv (xCue (av 0) nb nq x y z u) np) (xSAv av (xCue (av 0) nb nq x y z u) np))) := by
  refine g_meth pf_X4_cue (nle rfl) (fun p e s m args below meth c F hnm htb => ?_)
  have F : gFix K p s m args meth c cX4_cue 9 RX4 (some .int) := F
  refine g_eql (lv' := [(0, .ref o), (1, .int x), (2, .int y), (3, .int z), (4, .int u)]) rfl ?_
  obtain ⟨h1, hb, h2, hc, h3, hh, h4, hq⟩ := hC
  refine g_aload_n F dX4_cue_0 0 rfl rfl ?_
  refine g_callV F dX4_cue_1 mi_X4_keep q2341 q2343 qs25 gc_X4 mO_o (ct_X4_keepZ hN hz) rfl rfl (nle rfl) (nle rfl) (nle rfl) (g_purv ?_) g_purvX
  refine g_aload_n F dX4_cue_4 0 rfl rfl ?_
  refine g_iload_n F dX4_cue_5 2 rfl rfl ?_
  refine g_callV F dX4_cue_6 mi_X4_isBar q2369 q2371 qs29 gc_X4 mO_o (ct_X4_isBar (av := mu av 1 (av 0)) hN h1) rfl rfl (nle rfl) (nle rfl) (nle rfl) (g_pur ?_) g_purX
  refine g_if_ne (tgt := 18) F dX4_cue_9 (by decide) (fun c1 => ?_) (fun c1 => ?_)
  · refine g_aload_n F dX4_cue_18 0 rfl rfl ?_
    refine gf_X4_9_X4 (v := .ref (L 0)) F dX4_cue_19 mO_o rfl ?_
    refine g_iconst (v := 4) F dX4_cue_22 rfl ?_
    refine g_ialdN (i := 4) F (mO_0 hN) (rfl : (4 : Int32) = nI 4) (show 4 = 4 by omega) (by omega) (by decide) dX4_cue_23 ?_
    refine g_eqs (st' := [.int (nI nq)]) (congrArg (fun z => [Value.int z]) h4) ?_
    refine g_istore (lv' := [(5, .int (nI nq)), (0, .ref o), (1, .int x), (2, .int y), (3, .int z), (4, .int u)]) F dX4_cue_24 (by decide) rfl ?_
    refine g_iconst (v := 0) F dX4_cue_26 rfl ?_
    refine g_istore (lv' := [(6, .int 0), (5, .int (nI nq)), (0, .ref o), (1, .int x), (2, .int y), (3, .int z), (4, .int u)]) F dX4_cue_27 (by decide) rfl ?_
    refine g_iconst (v := 0) F dX4_cue_29 rfl ?_
    refine g_istore (lv' := [(7, .int 0), (6, .int 0), (5, .int (nI nq)), (0, .ref o), (1, .int x), (2, .int y), (3, .int z), (4, .int u)]) F dX4_cue_30 (by decide) rfl ?_
    refine g_iconst (v := 0) F dX4_cue_32 rfl ?_
    refine g_istore (lv' := [(8, .int 0), (7, .int 0), (6, .int 0), (5, .int (nI nq)), (0, .ref o), (1, .int x), (2, .int y), (3, .int z), (4, .int u)]) F dX4_cue_33 (by decide) rfl ?_
    refine g_lv (lv' := [(0, .ref o), (1, .int x), (2, .int y), (3, .int z), (4, .int u), (5, .int (nI nq)), (6, .int 0), (7, .int 0), (8, .int 0)]) [4, 5, 6, 7, 8, 3, 2, 1, 0] rfl ?_
    have lp : ∀ k, k ≤ nq → G K p e s m args below meth c (gRm 2 61 0 0) 9 (pR (.int (xRet (xCue (av 0) nb nq x y z u))) (mO K h o L (xSIv iv (xCue (av 0) nb nq x y z u) np) (xSAv av (xCue (av 0) nb nq x y z u) np))) (mO K h o L (upd iv 7 0) (mu av 1 (av 0))) 0 0 35 [(0, .ref o), (1, .int x), (2, .int y), (3, .int z), (4, .int u), (5, .int (nI nq)), (6, .int (nI (qPos (av 0) x k))), (7, .int (qIn (av 0) x k)), (8, .int (nI k))] [] := by
      refine gloop nq (fun k hk ih => ?_)
      refine g_iload F dX4_cue_35 8 rfl ?_
      refine g_iload F dX4_cue_37 5 rfl ?_
      refine g_icmp_ge (tgt := 92) F dX4_cue_39 (by decide) (fun c2 => ?_) (fun c2 => ?_)
      · have hkN : k = nq := gexit (by omega) hk c2
        obtain ⟨q, hqp⟩ : ∃ q, q = qPos (av 0) x nq := ⟨_, rfl⟩
        have hqn : q ≤ nq := by rw [hqp]; exact qPos_n
        obtain ⟨d, hd⟩ : ∃ d, nq = q + d := ⟨nq - q, by omega⟩
        refine g_eql (lv' := [(0, .ref o), (1, .int x), (2, .int y), (3, .int z), (4, .int u), (5, .int (nI nq)), (6, .int (nI q)), (7, .int (qIn (av 0) x nq)), (8, .int (nI nq))]) (by rw [hkN, hqp]) ?_
        refine g_iload F dX4_cue_92 7 rfl ?_
        refine g_if_ne (tgt := 128) F dX4_cue_94 (by decide) (fun c3 => ?_) (fun c3 => ?_)
        · refine g_aload_n F dX4_cue_128 0 rfl rfl ?_
          refine g_iconst (v := 2) F dX4_cue_129 rfl ?_
          refine g_callV F dX4_cue_130 mi_X4_fails q2349 q2351 qs26 gc_X4 mO_o (ct_X4_fails hN) rfl rfl (nle rfl) (nle rfl) (nle rfl) (g_pur ?_) g_purX
          have hr : xCue (av 0) nb nq x y z u = (.inr (2, none) : xR) := by (have hdd : nq - qPos (av 0) x nq = d := by omega); (simp only [xCue, qCueSt, hdd, ← hqp, ← nI_1]; grind)
          exact g_iret F dX4_cue_133 (⟨by rw [hr]; rfl, by rw [hr]; rfl⟩)
        · refine g_iload_n F dX4_cue_97 1 rfl rfl ?_
          refine g_iconst (v := 0) F dX4_cue_98 rfl ?_
          refine g_bipush (v := 99) F dX4_cue_99 rfl ?_
          refine g_callS F dX4_cue_101 mi_X4_in q2346 q2347 ct_X4_in rfl rfl (nle rfl) (nle rfl) (nle rfl) (g_pur ?_) g_purX
          refine g_if_eq (tgt := 128) F dX4_cue_104 (by decide) (fun c4 => ?_) (fun c4 => ?_)
          · refine g_aload_n F dX4_cue_128 0 rfl rfl ?_
            refine g_iconst (v := 2) F dX4_cue_129 rfl ?_
            refine g_callV F dX4_cue_130 mi_X4_fails q2349 q2351 qs26 gc_X4 mO_o (ct_X4_fails hN) rfl rfl (nle rfl) (nle rfl) (nle rfl) (g_pur ?_) g_purX
            have hr : xCue (av 0) nb nq x y z u = (.inr (2, none) : xR) := by (have hdd : nq - qPos (av 0) x nq = d := by omega); (simp only [xCue, qCueSt, hdd, ← hqp, ← nI_1]; grind)
            exact g_iret F dX4_cue_133 (⟨by rw [hr]; rfl, by rw [hr]; rfl⟩)
          · refine g_iload_n F dX4_cue_107 3 rfl rfl ?_
            refine g_iconst (v := 0) F dX4_cue_108 rfl ?_
            refine g_bipush (v := 20) F dX4_cue_109 rfl ?_
            refine g_callS F dX4_cue_111 mi_X4_in q2346 q2347 ct_X4_in rfl rfl (nle rfl) (nle rfl) (nle rfl) (g_pur ?_) g_purX
            refine g_if_eq (tgt := 128) F dX4_cue_114 (by decide) (fun c5 => ?_) (fun c5 => ?_)
            · refine g_aload_n F dX4_cue_128 0 rfl rfl ?_
              refine g_iconst (v := 2) F dX4_cue_129 rfl ?_
              refine g_callV F dX4_cue_130 mi_X4_fails q2349 q2351 qs26 gc_X4 mO_o (ct_X4_fails hN) rfl rfl (nle rfl) (nle rfl) (nle rfl) (g_pur ?_) g_purX
              have hr : xCue (av 0) nb nq x y z u = (.inr (2, none) : xR) := by (have hdd : nq - qPos (av 0) x nq = d := by omega); (simp only [xCue, qCueSt, hdd, ← hqp, ← nI_1]; grind)
              exact g_iret F dX4_cue_133 (⟨by rw [hr]; rfl, by rw [hr]; rfl⟩)
            · refine g_iload F dX4_cue_117 4 rfl ?_
              refine g_iconst (v := 0) F dX4_cue_119 rfl ?_
              refine g_bipush (v := 9) F dX4_cue_120 rfl ?_
              refine g_callS F dX4_cue_122 mi_X4_in q2346 q2347 ct_X4_in rfl rfl (nle rfl) (nle rfl) (nle rfl) (g_pur ?_) g_purX
              refine g_if_ne (tgt := 134) F dX4_cue_125 (by decide) (fun c6 => ?_) (fun c6 => ?_)
              · refine g_iload F dX4_cue_134 5 rfl ?_
                refine g_bipush (v := 12) F dX4_cue_136 rfl ?_
                refine g_icmp_ne (tgt := 147) F dX4_cue_138 (by decide) (fun c7 => ?_) (fun c7 => ?_)
                · have hne : nq ≠ 12 := fun z => c7 (by rw [z]; rfl)
                  refine g_bipush (v := 83) F dX4_cue_147 rfl ?_
                  refine g_iconst (v := 4) F dX4_cue_149 rfl ?_
                  refine g_iload F dX4_cue_150 6 rfl ?_
                  refine g_imul F dX4_cue_152 ?_
                  refine g_iadd F dX4_cue_153 ?_
                  refine g_istore (lv' := [(8, .int (83 + (4 * (nI q)))), (0, .ref o), (1, .int x), (2, .int y), (3, .int z), (4, .int u), (5, .int (nI nq)), (6, .int (nI q)), (7, .int (qIn (av 0) x nq))]) F dX4_cue_154 (by decide) rfl ?_
                  refine g_aload_n F dX4_cue_156 1 rfl rfl ?_
                  refine gf_X4_9_X4 (v := .ref (L 0)) F dX4_cue_157 mO_o rfl ?_
                  refine g_iload F dX4_cue_160 0 rfl ?_
                  refine g_aload_n F dX4_cue_162 1 rfl rfl ?_
                  refine gf_X4_9_X4 (v := .ref (L 0)) F dX4_cue_163 mO_o rfl ?_
                  refine g_iload F dX4_cue_166 0 rfl ?_
                  refine g_iconst (v := 4) F dX4_cue_168 rfl ?_
                  refine g_iadd F dX4_cue_169 ?_
                  refine g_iconst (v := 4) F dX4_cue_170 rfl ?_
                  refine g_iload F dX4_cue_171 6 rfl ?_
                  refine g_iload F dX4_cue_173 7 rfl ?_
                  refine g_isub F dX4_cue_175 ?_
                  refine g_eqs (st' := [.int (nI d), .int 4, .int ((83 + (4 * (nI q))) + 4), .ref (L 0), .int (83 + (4 * (nI q))), .ref (L 0)]) (by rw [hd, pk_sub (Nat.le_add_right _ _), Nat.add_sub_cancel_left]) ?_
                  refine g_imul F dX4_cue_176 ?_
                  refine g_mcopy hN 0 0 (n0 := 131) (n1 := 131) (a := 83 + 4 * q) (b0 := 87 + 4 * q) (k := 4 * d) F ⟨q2345, q718, q717, q94⟩ (by decide) (by decide) (by decide) rfl rfl (mO_0 hN) (mO_0 hN) (nto (nadd (rfl : (83 : Int32) = nI 83) (nmul (rfl : (4 : Int32) = nI 4) rfl)) (show (83 + (4 * q)) = 83 + 4 * q by omega)) (nto (nadd (nadd (rfl : (83 : Int32) = nI 83) (nmul (rfl : (4 : Int32) = nI 4) rfl)) (rfl : (4 : Int32) = nI 4)) (show ((83 + (4 * q)) + 4) = 87 + 4 * q by omega)) (nto (nmul (rfl : (4 : Int32) = nI 4) rfl) (show (4 * d) = 4 * d by omega)) (by omega) (by omega) (by decide) (nle rfl) (nle rfl) dX4_cue_177 ?_
                  refine g_aload_n F dX4_cue_180 1 rfl rfl ?_
                  refine gf_X4_9_X4 (v := .ref (L 0)) F dX4_cue_181 mO_o rfl ?_
                  refine g_iload F dX4_cue_184 0 rfl ?_
                  refine g_iload_n F dX4_cue_186 2 rfl rfl ?_
                  refine g_miast hN 0 (n := 131) (i := 83 + 4 * q) F (by decide) (by decide) rfl (mO_0 hN) (nadd (rfl : (83 : Int32) = nI 83) (nmul (rfl : (4 : Int32) = nI 4) rfl)) (show (83 + (4 * q)) = 83 + 4 * q by omega) (by omega) (by decide) dX4_cue_187 ?_
                  refine g_eqh (h' := (mO K h o L (upd iv 7 0) (mu (mu av 1 (av 0)) 0 (upd (va_cpy (av 0) (av 0) (83 + 4 * q) (87 + 4 * q) (4 * d)) (83 + 4 * q) x)))) (by simp only [mu_s, mu_mu]; try rfl) ?_
                  refine g_aload_n F dX4_cue_188 1 rfl rfl ?_
                  refine gf_X4_9_X4 (v := .ref (L 0)) F dX4_cue_189 mO_o rfl ?_
                  refine g_iload F dX4_cue_192 0 rfl ?_
                  refine g_iconst (v := 1) F dX4_cue_194 rfl ?_
                  refine g_iadd F dX4_cue_195 ?_
                  refine g_iload_n F dX4_cue_196 3 rfl rfl ?_
                  refine g_miast hN 0 (n := 131) (i := 84 + 4 * q) F (by decide) (by decide) rfl (mO_0 hN) (nadd (nadd (rfl : (83 : Int32) = nI 83) (nmul (rfl : (4 : Int32) = nI 4) rfl)) (rfl : (1 : Int32) = nI 1)) (show ((83 + (4 * q)) + 1) = 84 + 4 * q by omega) (by omega) (by decide) dX4_cue_197 ?_
                  refine g_eqh (h' := (mO K h o L (upd iv 7 0) (mu (mu av 1 (av 0)) 0 (upd (upd (va_cpy (av 0) (av 0) (83 + 4 * q) (87 + 4 * q) (4 * d)) (83 + 4 * q) x) (84 + 4 * q) y)))) (by simp only [mu_s, mu_mu]; try rfl) ?_
                  refine g_aload_n F dX4_cue_198 1 rfl rfl ?_
                  refine gf_X4_9_X4 (v := .ref (L 0)) F dX4_cue_199 mO_o rfl ?_
                  refine g_iload F dX4_cue_202 0 rfl ?_
                  refine g_iconst (v := 2) F dX4_cue_204 rfl ?_
                  refine g_iadd F dX4_cue_205 ?_
                  refine g_iload_n F dX4_cue_206 4 rfl rfl ?_
                  refine g_miast hN 0 (n := 131) (i := 85 + 4 * q) F (by decide) (by decide) rfl (mO_0 hN) (nadd (nadd (rfl : (83 : Int32) = nI 83) (nmul (rfl : (4 : Int32) = nI 4) rfl)) (rfl : (2 : Int32) = nI 2)) (show ((83 + (4 * q)) + 2) = 85 + 4 * q by omega) (by omega) (by decide) dX4_cue_207 ?_
                  refine g_eqh (h' := (mO K h o L (upd iv 7 0) (mu (mu av 1 (av 0)) 0 (upd (upd (upd (va_cpy (av 0) (av 0) (83 + 4 * q) (87 + 4 * q) (4 * d)) (83 + 4 * q) x) (84 + 4 * q) y) (85 + 4 * q) z)))) (by simp only [mu_s, mu_mu]; try rfl) ?_
                  refine g_aload_n F dX4_cue_208 1 rfl rfl ?_
                  refine gf_X4_9_X4 (v := .ref (L 0)) F dX4_cue_209 mO_o rfl ?_
                  refine g_iload F dX4_cue_212 0 rfl ?_
                  refine g_iconst (v := 3) F dX4_cue_214 rfl ?_
                  refine g_iadd F dX4_cue_215 ?_
                  refine g_iload F dX4_cue_216 5 rfl ?_
                  refine g_miast hN 0 (n := 131) (i := 86 + 4 * q) F (by decide) (by decide) rfl (mO_0 hN) (nadd (nadd (rfl : (83 : Int32) = nI 83) (nmul (rfl : (4 : Int32) = nI 4) rfl)) (rfl : (3 : Int32) = nI 3)) (show ((83 + (4 * q)) + 3) = 86 + 4 * q by omega) (by omega) (by decide) dX4_cue_218 ?_
                  refine g_eqh (h' := (mO K h o L (upd iv 7 0) (mu (mu av 1 (av 0)) 0 (upd (upd (upd (upd (va_cpy (av 0) (av 0) (83 + 4 * q) (87 + 4 * q) (4 * d)) (83 + 4 * q) x) (84 + 4 * q) y) (85 + 4 * q) z) (86 + 4 * q) u)))) (by simp only [mu_s, mu_mu]; try rfl) ?_
                  refine g_aload_n F dX4_cue_219 1 rfl rfl ?_
                  refine gf_X4_9_X4 (v := .ref (L 0)) F dX4_cue_220 mO_o rfl ?_
                  refine g_iconst (v := 4) F dX4_cue_223 rfl ?_
                  refine g_dup2 F dX4_cue_224 rfl rfl ?_
                  refine g_ialdN (i := 4) F (mO_0 hN) (rfl : (4 : Int32) = nI 4) (show 4 = 4 by omega) (by omega) (by decide) dX4_cue_225 ?_
                  refine g_eqs (st' := [.int (nI nq), .int 4, .ref (L 0)]) (by simp (disch := omega) only [pk_un, mu_s, pk_cpy_out, h4]; try exact h4) ?_
                  refine g_iconst (v := 1) F dX4_cue_226 rfl ?_
                  refine g_iadd F dX4_cue_227 ?_
                  refine g_miast hN 0 (n := 131) (i := 4) F (by decide) (by decide) rfl (mO_0 hN) (rfl : (4 : Int32) = nI 4) (show 4 = 4 by omega) (by omega) (by decide) dX4_cue_228 ?_
                  refine g_eqh (h' := (mO K h o L (upd iv 7 0) (mu (mu av 1 (av 0)) 0 (upd (upd (upd (upd (upd (va_cpy (av 0) (av 0) (83 + 4 * q) (87 + 4 * q) (4 * d)) (83 + 4 * q) x) (84 + 4 * q) y) (85 + 4 * q) z) (86 + 4 * q) u) 4 ((nI nq) + 1))))) (by simp only [mu_s, mu_mu]; try rfl) ?_
                  refine g_aload_n F dX4_cue_229 1 rfl rfl ?_
                  refine g_iload F dX4_cue_230 6 rfl ?_
                  refine g_iconst (v := 1) F dX4_cue_232 rfl ?_
                  refine g_iadd F dX4_cue_233 ?_
                  refine g_callV F dX4_cue_234 mi_X4_ends q2353 q2355 qs27 gc_X4 mO_o (ct_X4_endsO hN (np := np) pk_us ((pk_un (by decide)).trans h6) hnp) rfl rfl (nle rfl) (nle rfl) (nle rfl) (g_pur ?_) g_purX
                  have hr : xCue (av 0) nb nq x y z u = (.inl ((nI nq) + 1, upd (upd (upd (upd (upd (va_cpy (av 0) (av 0) (83 + 4 * q) (87 + 4 * q) (4 * d)) (83 + 4 * q) x) (84 + 4 * q) y) (85 + 4 * q) z) (86 + 4 * q) u) 4 ((nI nq) + 1)) : xR) := by (have hdd : nq - qPos (av 0) x nq = d := by omega); (simp only [xCue, qCueSt, hdd, ← hqp, ← nI_1]; grind)
                  exact g_iret F dX4_cue_237 (⟨by rw [hr]; rfl, by rw [hr]; rfl⟩)
                · have heq : nq = 12 := (nI_eq (by omega) (by decide)).mp (show nI nq = nI 12 from c7)
                  refine g_aload_n F dX4_cue_141 0 rfl rfl ?_
                  refine g_iconst (v := 3) F dX4_cue_142 rfl ?_
                  refine g_callV F dX4_cue_143 mi_X4_fails q2349 q2351 qs26 gc_X4 mO_o (ct_X4_fails hN) rfl rfl (nle rfl) (nle rfl) (nle rfl) (g_pur ?_) g_purX
                  have hr : xCue (av 0) nb nq x y z u = (.inr (3, none) : xR) := by (have hdd : nq - qPos (av 0) x nq = d := by omega); (simp only [xCue, qCueSt, hdd, ← hqp, ← nI_1]; grind)
                  exact g_iret F dX4_cue_146 (⟨by rw [hr]; rfl, by rw [hr]; rfl⟩)
              · refine g_aload_n F dX4_cue_128 0 rfl rfl ?_
                refine g_iconst (v := 2) F dX4_cue_129 rfl ?_
                refine g_callV F dX4_cue_130 mi_X4_fails q2349 q2351 qs26 gc_X4 mO_o (ct_X4_fails hN) rfl rfl (nle rfl) (nle rfl) (nle rfl) (g_pur ?_) g_purX
                have hr : xCue (av 0) nb nq x y z u = (.inr (2, none) : xR) := by (have hdd : nq - qPos (av 0) x nq = d := by omega); (simp only [xCue, qCueSt, hdd, ← hqp, ← nI_1]; grind)
                exact g_iret F dX4_cue_133 (⟨by rw [hr]; rfl, by rw [hr]; rfl⟩)
      · have hlt : k < nq := gbody (by omega) hk c2
        refine g_iload F dX4_cue_42 6 rfl ?_
        refine g_aload_n F dX4_cue_44 0 rfl rfl ?_
        refine g_iload F dX4_cue_45 8 rfl ?_
        refine g_iconst (v := 0) F dX4_cue_47 rfl ?_
        refine g_callV F dX4_cue_48 mi_X4_cue1 q2548 q2550 qs54 gc_X4 mO_o (ct_X4_cue1 hN (i := 83 + 4 * k) (nto (nadd (nadd (rfl : (83 : Int32) = nI 83) (nmul (rfl : (4 : Int32) = nI 4) rfl)) (rfl : (0 : Int32) = nI 0)) (show ((83 + (4 * k)) + 0) = 83 + 4 * k by omega)) (by omega)) rfl rfl (nle rfl) (nle rfl) (nle rfl) (g_pur ?_) g_purX
        refine g_iload_n F dX4_cue_51 1 rfl rfl ?_
        refine g_icmp_ge (tgt := 59) F dX4_cue_52 (by decide) (fun c9 => ?_) (fun c9 => ?_)
        · have c9 : x ≤ av 0 (83 + 4 * k) := c9
          have e6 : qPos (av 0) x (k + 1) = qPos (av 0) x k := by rw [qPos_s, if_neg (Int32.not_lt.mpr c9)]; rfl
          refine g_iconst (v := 0) F dX4_cue_59 rfl ?_
          refine g_iadd F dX4_cue_60 ?_
          refine g_istore (lv' := [(6, .int ((nI (qPos (av 0) x k)) + 0)), (0, .ref o), (1, .int x), (2, .int y), (3, .int z), (4, .int u), (5, .int (nI nq)), (7, .int (qIn (av 0) x k)), (8, .int (nI k))]) F dX4_cue_61 (by decide) rfl ?_
          refine g_iload F dX4_cue_63 7 rfl ?_
          refine g_if_ne (tgt := 79) F dX4_cue_65 (by decide) (fun c10 => ?_) (fun c10 => ?_)
          · have e7 : qIn (av 0) x (k + 1) = 1 := by rw [qIn_s, if_pos (.inl c10)]
            refine g_iconst (v := 1) F dX4_cue_79 rfl ?_
            refine g_goto (tgt := 84) F dX4_cue_80 (by decide) ?_
            refine g_istore (lv' := [(7, .int 1), (6, .int ((nI (qPos (av 0) x k)) + 0)), (0, .ref o), (1, .int x), (2, .int y), (3, .int z), (4, .int u), (5, .int (nI nq)), (8, .int (nI k))]) F dX4_cue_84 (by decide) rfl ?_
            refine g_iinc (lv' := [(8, .int ((nI k) + 1)), (7, .int 1), (6, .int ((nI (qPos (av 0) x k)) + 0)), (0, .ref o), (1, .int x), (2, .int y), (3, .int z), (4, .int u), (5, .int (nI nq))]) (v := (nI k) + 1) F dX4_cue_86 (k := 8) rfl rfl (by decide) rfl ?_
            refine g_goto (tgt := 35) F dX4_cue_89 (by decide) ?_
            refine g_lv (lv' := [(0, .ref o), (1, .int x), (2, .int y), (3, .int z), (4, .int u), (5, .int (nI nq)), (6, .int ((nI (qPos (av 0) x k)) + 0)), (7, .int 1), (8, .int ((nI k) + 1))]) [3, 4, 5, 6, 7, 8, 2, 1, 0] rfl ?_
            exact g_eql (lv' := [(0, .ref o), (1, .int x), (2, .int y), (3, .int z), (4, .int u), (5, .int (nI nq)), (6, .int (nI (qPos (av 0) x (k + 1)))), (7, .int (qIn (av 0) x (k + 1))), (8, .int (nI (k + 1)))]) (by rw [e6, e7]; try simp [nI_1]) (ih hlt)
          · have c8 := c10
            refine g_aload_n F dX4_cue_68 1 rfl rfl ?_
            refine g_iload F dX4_cue_69 8 rfl ?_
            refine g_iconst (v := 0) F dX4_cue_71 rfl ?_
            refine g_callV F dX4_cue_72 mi_X4_cue1 q2548 q2550 qs54 gc_X4 mO_o (ct_X4_cue1 hN (i := 83 + 4 * k) (nto (nadd (nadd (rfl : (83 : Int32) = nI 83) (nmul (rfl : (4 : Int32) = nI 4) rfl)) (rfl : (0 : Int32) = nI 0)) (show ((83 + (4 * k)) + 0) = 83 + 4 * k by omega)) (by omega)) rfl rfl (nle rfl) (nle rfl) (nle rfl) (g_pur ?_) g_purX
            refine g_iload_n F dX4_cue_75 2 rfl rfl ?_
            refine g_icmp_ne (tgt := 83) F dX4_cue_76 (by decide) (fun c11 => ?_) (fun c11 => ?_)
            · have e7 : qIn (av 0) x (k + 1) = 0 := by rw [qIn_s, if_neg (fun z => z.elim (fun w => w c8) c11)]
              refine g_iconst (v := 0) F dX4_cue_83 rfl ?_
              refine g_istore (lv' := [(7, .int 0), (6, .int ((nI (qPos (av 0) x k)) + 0)), (0, .ref o), (1, .int x), (2, .int y), (3, .int z), (4, .int u), (5, .int (nI nq)), (8, .int (nI k))]) F dX4_cue_84 (by decide) rfl ?_
              refine g_iinc (lv' := [(8, .int ((nI k) + 1)), (7, .int 0), (6, .int ((nI (qPos (av 0) x k)) + 0)), (0, .ref o), (1, .int x), (2, .int y), (3, .int z), (4, .int u), (5, .int (nI nq))]) (v := (nI k) + 1) F dX4_cue_86 (k := 8) rfl rfl (by decide) rfl ?_
              refine g_goto (tgt := 35) F dX4_cue_89 (by decide) ?_
              refine g_lv (lv' := [(0, .ref o), (1, .int x), (2, .int y), (3, .int z), (4, .int u), (5, .int (nI nq)), (6, .int ((nI (qPos (av 0) x k)) + 0)), (7, .int 0), (8, .int ((nI k) + 1))]) [3, 4, 5, 6, 7, 8, 2, 1, 0] rfl ?_
              exact g_eql (lv' := [(0, .ref o), (1, .int x), (2, .int y), (3, .int z), (4, .int u), (5, .int (nI nq)), (6, .int (nI (qPos (av 0) x (k + 1)))), (7, .int (qIn (av 0) x (k + 1))), (8, .int (nI (k + 1)))]) (by rw [e6, e7]; try simp [nI_1]) (ih hlt)
            · have e7 : qIn (av 0) x (k + 1) = 1 := by rw [qIn_s, if_pos (.inr c11)]
              refine g_iconst (v := 1) F dX4_cue_79 rfl ?_
              refine g_goto (tgt := 84) F dX4_cue_80 (by decide) ?_
              refine g_istore (lv' := [(7, .int 1), (6, .int ((nI (qPos (av 0) x k)) + 0)), (0, .ref o), (1, .int x), (2, .int y), (3, .int z), (4, .int u), (5, .int (nI nq)), (8, .int (nI k))]) F dX4_cue_84 (by decide) rfl ?_
              refine g_iinc (lv' := [(8, .int ((nI k) + 1)), (7, .int 1), (6, .int ((nI (qPos (av 0) x k)) + 0)), (0, .ref o), (1, .int x), (2, .int y), (3, .int z), (4, .int u), (5, .int (nI nq))]) (v := (nI k) + 1) F dX4_cue_86 (k := 8) rfl rfl (by decide) rfl ?_
              refine g_goto (tgt := 35) F dX4_cue_89 (by decide) ?_
              refine g_lv (lv' := [(0, .ref o), (1, .int x), (2, .int y), (3, .int z), (4, .int u), (5, .int (nI nq)), (6, .int ((nI (qPos (av 0) x k)) + 0)), (7, .int 1), (8, .int ((nI k) + 1))]) [3, 4, 5, 6, 7, 8, 2, 1, 0] rfl ?_
              exact g_eql (lv' := [(0, .ref o), (1, .int x), (2, .int y), (3, .int z), (4, .int u), (5, .int (nI nq)), (6, .int (nI (qPos (av 0) x (k + 1)))), (7, .int (qIn (av 0) x (k + 1))), (8, .int (nI (k + 1)))]) (by rw [e6, e7]; try simp [nI_1]) (ih hlt)
        · have c9 : ¬ x ≤ av 0 (83 + 4 * k) := c9
          have e6 : qPos (av 0) x (k + 1) = qPos (av 0) x k + 1 := by rw [qPos_s, if_pos (Int32.not_le.mp c9)]
          refine g_iconst (v := 1) F dX4_cue_55 rfl ?_
          refine g_goto (tgt := 60) F dX4_cue_56 (by decide) ?_
          refine g_iadd F dX4_cue_60 ?_
          refine g_istore (lv' := [(6, .int ((nI (qPos (av 0) x k)) + 1)), (0, .ref o), (1, .int x), (2, .int y), (3, .int z), (4, .int u), (5, .int (nI nq)), (7, .int (qIn (av 0) x k)), (8, .int (nI k))]) F dX4_cue_61 (by decide) rfl ?_
          refine g_iload F dX4_cue_63 7 rfl ?_
          refine g_if_ne (tgt := 79) F dX4_cue_65 (by decide) (fun c12 => ?_) (fun c12 => ?_)
          · have e7 : qIn (av 0) x (k + 1) = 1 := by rw [qIn_s, if_pos (.inl c12)]
            refine g_iconst (v := 1) F dX4_cue_79 rfl ?_
            refine g_goto (tgt := 84) F dX4_cue_80 (by decide) ?_
            refine g_istore (lv' := [(7, .int 1), (6, .int ((nI (qPos (av 0) x k)) + 1)), (0, .ref o), (1, .int x), (2, .int y), (3, .int z), (4, .int u), (5, .int (nI nq)), (8, .int (nI k))]) F dX4_cue_84 (by decide) rfl ?_
            refine g_iinc (lv' := [(8, .int ((nI k) + 1)), (7, .int 1), (6, .int ((nI (qPos (av 0) x k)) + 1)), (0, .ref o), (1, .int x), (2, .int y), (3, .int z), (4, .int u), (5, .int (nI nq))]) (v := (nI k) + 1) F dX4_cue_86 (k := 8) rfl rfl (by decide) rfl ?_
            refine g_goto (tgt := 35) F dX4_cue_89 (by decide) ?_
            refine g_lv (lv' := [(0, .ref o), (1, .int x), (2, .int y), (3, .int z), (4, .int u), (5, .int (nI nq)), (6, .int ((nI (qPos (av 0) x k)) + 1)), (7, .int 1), (8, .int ((nI k) + 1))]) [3, 4, 5, 6, 7, 8, 2, 1, 0] rfl ?_
            exact g_eql (lv' := [(0, .ref o), (1, .int x), (2, .int y), (3, .int z), (4, .int u), (5, .int (nI nq)), (6, .int (nI (qPos (av 0) x (k + 1)))), (7, .int (qIn (av 0) x (k + 1))), (8, .int (nI (k + 1)))]) (by rw [e6, e7]; try simp [nI_1]) (ih hlt)
          · have c8 := c12
            refine g_aload_n F dX4_cue_68 1 rfl rfl ?_
            refine g_iload F dX4_cue_69 8 rfl ?_
            refine g_iconst (v := 0) F dX4_cue_71 rfl ?_
            refine g_callV F dX4_cue_72 mi_X4_cue1 q2548 q2550 qs54 gc_X4 mO_o (ct_X4_cue1 hN (i := 83 + 4 * k) (nto (nadd (nadd (rfl : (83 : Int32) = nI 83) (nmul (rfl : (4 : Int32) = nI 4) rfl)) (rfl : (0 : Int32) = nI 0)) (show ((83 + (4 * k)) + 0) = 83 + 4 * k by omega)) (by omega)) rfl rfl (nle rfl) (nle rfl) (nle rfl) (g_pur ?_) g_purX
            refine g_iload_n F dX4_cue_75 2 rfl rfl ?_
            refine g_icmp_ne (tgt := 83) F dX4_cue_76 (by decide) (fun c13 => ?_) (fun c13 => ?_)
            · have e7 : qIn (av 0) x (k + 1) = 0 := by rw [qIn_s, if_neg (fun z => z.elim (fun w => w c8) c13)]
              refine g_iconst (v := 0) F dX4_cue_83 rfl ?_
              refine g_istore (lv' := [(7, .int 0), (6, .int ((nI (qPos (av 0) x k)) + 1)), (0, .ref o), (1, .int x), (2, .int y), (3, .int z), (4, .int u), (5, .int (nI nq)), (8, .int (nI k))]) F dX4_cue_84 (by decide) rfl ?_
              refine g_iinc (lv' := [(8, .int ((nI k) + 1)), (7, .int 0), (6, .int ((nI (qPos (av 0) x k)) + 1)), (0, .ref o), (1, .int x), (2, .int y), (3, .int z), (4, .int u), (5, .int (nI nq))]) (v := (nI k) + 1) F dX4_cue_86 (k := 8) rfl rfl (by decide) rfl ?_
              refine g_goto (tgt := 35) F dX4_cue_89 (by decide) ?_
              refine g_lv (lv' := [(0, .ref o), (1, .int x), (2, .int y), (3, .int z), (4, .int u), (5, .int (nI nq)), (6, .int ((nI (qPos (av 0) x k)) + 1)), (7, .int 0), (8, .int ((nI k) + 1))]) [3, 4, 5, 6, 7, 8, 2, 1, 0] rfl ?_
              exact g_eql (lv' := [(0, .ref o), (1, .int x), (2, .int y), (3, .int z), (4, .int u), (5, .int (nI nq)), (6, .int (nI (qPos (av 0) x (k + 1)))), (7, .int (qIn (av 0) x (k + 1))), (8, .int (nI (k + 1)))]) (by rw [e6, e7]; try simp [nI_1]) (ih hlt)
            · have e7 : qIn (av 0) x (k + 1) = 1 := by rw [qIn_s, if_pos (.inr c13)]
              refine g_iconst (v := 1) F dX4_cue_79 rfl ?_
              refine g_goto (tgt := 84) F dX4_cue_80 (by decide) ?_
              refine g_istore (lv' := [(7, .int 1), (6, .int ((nI (qPos (av 0) x k)) + 1)), (0, .ref o), (1, .int x), (2, .int y), (3, .int z), (4, .int u), (5, .int (nI nq)), (8, .int (nI k))]) F dX4_cue_84 (by decide) rfl ?_
              refine g_iinc (lv' := [(8, .int ((nI k) + 1)), (7, .int 1), (6, .int ((nI (qPos (av 0) x k)) + 1)), (0, .ref o), (1, .int x), (2, .int y), (3, .int z), (4, .int u), (5, .int (nI nq))]) (v := (nI k) + 1) F dX4_cue_86 (k := 8) rfl rfl (by decide) rfl ?_
              refine g_goto (tgt := 35) F dX4_cue_89 (by decide) ?_
              refine g_lv (lv' := [(0, .ref o), (1, .int x), (2, .int y), (3, .int z), (4, .int u), (5, .int (nI nq)), (6, .int ((nI (qPos (av 0) x k)) + 1)), (7, .int 1), (8, .int ((nI k) + 1))]) [3, 4, 5, 6, 7, 8, 2, 1, 0] rfl ?_
              exact g_eql (lv' := [(0, .ref o), (1, .int x), (2, .int y), (3, .int z), (4, .int u), (5, .int (nI nq)), (6, .int (nI (qPos (av 0) x (k + 1)))), (7, .int (qIn (av 0) x (k + 1))), (8, .int (nI (k + 1)))]) (by rw [e6, e7]; try simp [nI_1]) (ih hlt)
    exact lp 0 (Nat.zero_le _)
  · refine g_aload_n F dX4_cue_12 0 rfl rfl ?_
    refine g_iconst (v := 1) F dX4_cue_13 rfl ?_
    refine g_callV F dX4_cue_14 mi_X4_fails q2349 q2351 qs26 gc_X4 mO_o (ct_X4_fails hN) rfl rfl (nle rfl) (nle rfl) (nle rfl) (g_pur ?_) g_purX
    have hr : xCue (av 0) nb nq x y z u = (.inr (1, none) : xR) := by grind [xCue]
    exact g_iret F dX4_cue_17 (⟨by rw [hr]; rfl, by rw [hr]; rfl⟩)
set_option maxHeartbeats 4000000 in
set_option maxRecDepth 100000 in
theorem ct_X4_append {K : gK} {h : AH} {o : Nat} {L : Nat → Nat} {iv : Nat → Int32} {av : Nat → Nat → Int32} (hN : mN K o L) {x : Int32} {n : Nat} (h14 : iv 14 = nI n) (hn : n ≤ 60) : gCt K yX4_append w_X4_append 1 22 0 0 (mO K h o L iv av) [.ref o, .int x] (pR (.int (qV (qApp n x))) (mO K h o L (qAppI iv n x) (qAppA av n x))) := by
  refine g_meth pf_X4_append (nle rfl) (fun p e s m args below meth c F hnm htb => ?_)
  have F : gFix K p s m args meth c cX4_append 6 RX4 (some .int) := F
  refine g_eql (lv' := [(0, .ref o), (1, .int x)]) rfl ?_
  refine g_iconst (v := 0) F dX4_append_0 rfl ?_
  refine g_istore_n (lv' := [(2, .int 0), (0, .ref o), (1, .int x)]) F dX4_append_1 rfl (by decide) rfl ?_
  refine g_iconst (v := 1) F dX4_append_2 rfl ?_
  refine g_istore_n (lv' := [(3, .int 1), (2, .int 0), (0, .ref o), (1, .int x)]) F dX4_append_3 rfl (by decide) rfl ?_
  refine g_bipush (v := 24) F dX4_append_4 rfl ?_
  refine g_istore (lv' := [(4, .int 24), (3, .int 1), (2, .int 0), (0, .ref o), (1, .int x)]) F dX4_append_6 (by decide) rfl ?_
  refine g_eql (lv' := [(4, .int (24 - 8 * nI 0)), (3, .int 1), (2, .int 0), (0, .ref o), (1, .int x)]) rfl ?_
  refine g_lv (lv' := [(0, .ref o), (1, .int x), (2, .int 0), (3, .int 1), (4, .int (24 - 8 * nI 0))]) [3, 4, 2, 1, 0] rfl ?_
  have lp : ∀ k, k ≤ 4 → G K p e s m args below meth c (gRm 1 22 0 0) 6 (pR (.int (qV (qApp n x))) (mO K h o L (qAppI iv n x) (qAppA av n x))) (mO K h o L iv av) 0 0 8 [(0, .ref o), (1, .int x), (2, .int (nI (qMn x k))), (3, .int (qRt x k)), (4, .int (24 - 8 * nI k))] [] := by
    refine gloop 4 (fun k hk ih => ?_)
    refine g_iload F dX4_append_8 4 rfl ?_
    refine g_if_lt (tgt := 69) F dX4_append_10 (by decide) (fun c1 => ?_) (fun c1 => ?_)
    · have hkN : k = 4 := (sh_lt hk).mp c1
      refine g_eql (lv' := [(0, .ref o), (1, .int x), (2, .int (nI (qMn x 4))), (3, .int (qRt x 4)), (4, .int (24 - 8 * nI 4))]) (by rw [hkN]) ?_
      refine g_aload_n F dX4_append_69 0 rfl rfl ?_
      refine g_iload_n F dX4_append_70 3 rfl rfl ?_
      refine g_if_ne (tgt := 78) F dX4_append_71 (by decide) (fun c2 => ?_) (fun c2 => ?_)
      · have cr := c2
        refine g_aload_n F dX4_append_78 0 rfl rfl ?_
        refine gf_X4_253_X4 (v := .int (iv 14)) F dX4_append_79 mO_o rfl ?_
        refine g_eqs (st' := [.int (nI n), .ref o]) (congrArg (fun z => [Value.int z, .ref o]) h14) ?_
        refine g_iload_n F dX4_append_82 2 rfl rfl ?_
        refine g_iadd F dX4_append_83 ?_
        refine g_bipush (v := 60) F dX4_append_84 rfl ?_
        refine g_icmp_le (tgt := 93) F dX4_append_86 (by decide) (fun c3 => ?_) (fun c3 => ?_)
        · have cl : ¬ 60 < n + qMn x 4 := by
            rw [nI_add] at c3
            have := (nI_leI (b := 60) (by have := qMn_n (x := x) (k := 4); omega) (by decide)).mp c3
            omega
          refine g_iconst (v := 0) F dX4_append_93 rfl ?_
          refine gp_X4_69_X4 F dX4_append_94 mO_o hN.1 (nle rfl) rfl (fun h_e4 e4 => ?_)
          refine g_mput (iv2 := upd iv 7 0) e4 rfl ?_
          refine g_bipush (v := 24) F dX4_append_97 rfl ?_
          refine g_istore (lv' := [(4, .int 24), (0, .ref o), (1, .int x), (2, .int (nI (qMn x 4))), (3, .int (qRt x 4))]) F dX4_append_99 (by decide) rfl ?_
          refine g_eql (lv' := [(4, .int (24 - 8 * nI 0)), (0, .ref o), (1, .int x), (2, .int (nI (qMn x 4))), (3, .int (qRt x 4))]) rfl ?_
          refine g_eqh (h' := (mO K h o L (upd (upd iv 7 0) 14 (nI (n + qMn x 0))) (mu av 13 (qTf (av 13) n x 0)))) (by rw [show mu av 13 (qTf (av 13) n x 0) = av from mu_id, upd_id (f := upd iv 7 0) (k := 14) (show upd iv 7 0 14 = nI (n + qMn x 0) from h14)]) ?_
          refine g_lv (lv' := [(0, .ref o), (1, .int x), (2, .int (nI (qMn x 4))), (3, .int (qRt x 4)), (4, .int (24 - 8 * nI 0))]) [1, 2, 3, 4, 0] rfl ?_
          have lp2 : ∀ k, k ≤ 4 → G K p e s m args below meth c (gRm 1 22 0 0) 6 (pR (.int (qV (qApp n x))) (mO K h o L (qAppI iv n x) (qAppA av n x))) (mO K h o L (upd (upd iv 7 0) 14 (nI (n + qMn x k))) (mu av 13 (qTf (av 13) n x k))) 0 0 101 [(0, .ref o), (1, .int x), (2, .int (nI (qMn x 4))), (3, .int (qRt x 4)), (4, .int (24 - 8 * nI k))] [] := by
            refine gloop 4 (fun k hk ih => ?_)
            refine g_iload F dX4_append_101 4 rfl ?_
            refine g_if_lt (tgt := 155) F dX4_append_103 (by decide) (fun c5 => ?_) (fun c5 => ?_)
            · have hkN : k = 4 := (sh_lt hk).mp c5
              refine g_aload_n F dX4_append_155 0 rfl rfl ?_
              refine gf_X4_69_X4 (v := .int 0) F dX4_append_156 mO_o rfl ?_
              refine g_if_le (tgt := 166) F dX4_append_159 (by decide) (fun c6 => ?_) (fun c6 => absurd c6 (by decide))
              refine g_aload_n F dX4_append_166 0 rfl rfl ?_
              refine gf_X4_253_X4 (v := .int (nI (n + qMn x k))) F dX4_append_167 mO_o rfl ?_
              have hr : qApp n x = (.inl (nI (n + qMn x 4)) : xQ) := by unfold qApp; rw [if_neg cr, if_neg cl]
              exact g_iret F dX4_append_170 (⟨by rw [hr, hkN]; rfl, by rw [(qApp_l (iv := iv) (av := av) hr).1, (qApp_l (iv := iv) (av := av) hr).2, hkN]⟩)
            · have hlt : k < 4 := by
                rcases Nat.lt_or_ge k 4 with q | q
                · exact q
                · exact absurd ((sh_lt hk).mpr (by omega)) c5
              refine g_aload_n F dX4_append_106 0 rfl rfl ?_
              refine gf_X4_69_X4 (v := .int 0) F dX4_append_107 mO_o rfl ?_
              refine g_if_ne (tgt := 155) F dX4_append_110 (by decide) (fun c7 => absurd c7 (by decide)) (fun c7 => ?_)
              refine g_iload_n F dX4_append_113 1 rfl rfl ?_
              refine g_iload F dX4_append_114 4 rfl ?_
              refine g_iushr F dX4_append_116 rfl ?_
              refine g_sipush (v := 255) F dX4_append_117 rfl ?_
              refine g_iand F dX4_append_120 ?_
              refine g_eqs (st' := [.int (qCd x k)]) rfl ?_
              refine g_istore (lv' := [(5, .int (qCd x k)), (0, .ref o), (1, .int x), (2, .int (nI (qMn x 4))), (3, .int (qRt x 4)), (4, .int (24 - 8 * nI k))]) F dX4_append_121 (by decide) rfl ?_
              refine g_iload F dX4_append_123 0 rfl ?_
              refine g_if_eq (tgt := 149) F dX4_append_125 (by decide) (fun c8 => ?_) (fun c8 => ?_)
              · have cz := c8
                refine g_eqh (h' := (mO K h o L (upd (upd iv 7 0) 14 (nI (n + qMn x (k + 1)))) (mu av 13 (qTf (av 13) n x (k + 1))))) (by rw [qMn_s, qTf_s]; simp [cz, nI_1, upd_upd, mu_mu, mu_s, Nat.add_assoc]) ?_
                refine g_iinc (lv' := [(4, .int ((24 - 8 * nI k) + (-8))), (5, .int (qCd x k)), (0, .ref o), (1, .int x), (2, .int (nI (qMn x 4))), (3, .int (qRt x 4))]) (v := (24 - 8 * nI k) + (-8)) F dX4_append_149 (k := 5) rfl rfl (by decide) rfl ?_
                refine g_goto (tgt := 101) F dX4_append_152 (by decide) ?_
                refine g_lv (lv' := [(0, .ref o), (1, .int x), (2, .int (nI (qMn x 4))), (3, .int (qRt x 4)), (4, .int ((24 - 8 * nI k) + (-8)))]) [2, 3, 4, 5, 0] rfl ?_
                exact g_eql (lv' := [(0, .ref o), (1, .int x), (2, .int (nI (qMn x 4))), (3, .int (qRt x 4)), (4, .int (24 - 8 * nI (k + 1)))]) (by rw [← sh_s hlt]; try rfl) (ih hlt)
              · have cz := c8
                have hm1 := qMn_m (x := x) (k := k + 1) (n := 4) (by omega)
                have hm2 : qMn x (k + 1) = qMn x k + 1 := by rw [qMn_s, if_neg cz]
                refine g_aload_n F dX4_append_128 1 rfl rfl ?_
                refine gf_X4_53_X4 (v := .ref (L 13)) F dX4_append_129 mO_o rfl ?_
                refine g_aload_n F dX4_append_132 1 rfl rfl ?_
                refine gf_X4_253_X4 (v := .int (nI (n + qMn x k))) F dX4_append_133 mO_o rfl ?_
                refine g_iload F dX4_append_136 0 rfl ?_
                refine g_miast hN 13 (n := 60) (i := n + qMn x k) F (by decide) (by decide) rfl (mO_13 hN) rfl (show (n + qMn x k) = n + qMn x k by omega) (by omega) (by decide) dX4_append_138 ?_
                refine g_eqh (h' := (mO K h o L (upd (upd iv 7 0) 14 (nI (n + qMn x k))) (mu av 13 (upd (qTf (av 13) n x k) (n + qMn x k) (qCd x k))))) (by simp only [mu_s, mu_mu]; try rfl) ?_
                refine g_aload_n F dX4_append_139 1 rfl rfl ?_
                refine g_dup F dX4_append_140 rfl ?_
                refine gf_X4_253_X4 (v := .int (nI (n + qMn x k))) F dX4_append_141 mO_o rfl ?_
                refine g_iconst (v := 1) F dX4_append_144 rfl ?_
                refine g_iadd F dX4_append_145 ?_
                refine gp_X4_253_X4 F dX4_append_146 mO_o hN.1 (nle rfl) rfl (fun h_e9 e9 => ?_)
                refine g_mput (iv2 := upd (upd (upd iv 7 0) 14 (nI (n + qMn x k))) 14 ((nI (n + qMn x k)) + 1)) e9 rfl ?_
                refine g_eqh (h' := (mO K h o L (upd (upd iv 7 0) 14 (nI (n + qMn x (k + 1)))) (mu av 13 (qTf (av 13) n x (k + 1))))) (by rw [qMn_s, qTf_s]; simp [cz, nI_1, upd_upd, mu_mu, mu_s, Nat.add_assoc]) ?_
                refine g_iinc (lv' := [(4, .int ((24 - 8 * nI k) + (-8))), (5, .int (qCd x k)), (0, .ref o), (1, .int x), (2, .int (nI (qMn x 4))), (3, .int (qRt x 4))]) (v := (24 - 8 * nI k) + (-8)) F dX4_append_149 (k := 5) rfl rfl (by decide) rfl ?_
                refine g_goto (tgt := 101) F dX4_append_152 (by decide) ?_
                refine g_lv (lv' := [(0, .ref o), (1, .int x), (2, .int (nI (qMn x 4))), (3, .int (qRt x 4)), (4, .int ((24 - 8 * nI k) + (-8)))]) [2, 3, 4, 5, 0] rfl ?_
                exact g_eql (lv' := [(0, .ref o), (1, .int x), (2, .int (nI (qMn x 4))), (3, .int (qRt x 4)), (4, .int (24 - 8 * nI (k + 1)))]) (by rw [← sh_s hlt]; try rfl) (ih hlt)
          exact lp2 0 (Nat.zero_le _)
        · have cl : 60 < n + qMn x 4 := by
            rw [nI_add] at c3
            have := mt (nI_leI (b := 60) (by have := qMn_n (x := x) (k := 4); omega) (by decide)).mpr c3
            omega
          refine g_iconst (v := 2) F dX4_append_89 rfl ?_
          refine g_goto (tgt := 94) F dX4_append_90 (by decide) ?_
          refine gp_X4_69_X4 F dX4_append_94 mO_o hN.1 (nle rfl) rfl (fun h_e10 e10 => ?_)
          refine g_mput (iv2 := upd iv 7 2) e10 rfl ?_
          refine g_bipush (v := 24) F dX4_append_97 rfl ?_
          refine g_istore (lv' := [(4, .int 24), (0, .ref o), (1, .int x), (2, .int (nI (qMn x 4))), (3, .int (qRt x 4))]) F dX4_append_99 (by decide) rfl ?_
          refine g_iload F dX4_append_101 0 rfl ?_
          refine g_if_lt (tgt := 155) F dX4_append_103 (by decide) (fun c11 => absurd c11 (by decide)) (fun c11 => ?_)
          refine g_aload_n F dX4_append_106 1 rfl rfl ?_
          refine gf_X4_69_X4 (v := .int 2) F dX4_append_107 mO_o rfl ?_
          refine g_if_ne (tgt := 155) F dX4_append_110 (by decide) (fun c12 => ?_) (fun c12 => absurd c12 (by decide))
          refine g_aload_n F dX4_append_155 1 rfl rfl ?_
          refine gf_X4_69_X4 (v := .int 2) F dX4_append_156 mO_o rfl ?_
          refine g_if_le (tgt := 166) F dX4_append_159 (by decide) (fun c13 => absurd c13 (by decide)) (fun c13 => ?_)
          refine g_iconst (v := 0) F dX4_append_162 rfl ?_
          refine g_goto (tgt := 170) F dX4_append_163 (by decide) ?_
          have hr : qApp n x = (.inr 2 : xQ) := by unfold qApp; rw [if_neg cr, if_pos cl]
          exact g_iret F dX4_append_170 (⟨by rw [hr]; rfl, by rw [(qApp_r (iv := iv) (av := av) hr).1, (qApp_r (iv := iv) (av := av) hr).2]; rfl⟩)
      · have cr := c2
        refine g_iconst (v := 1) F dX4_append_74 rfl ?_
        refine g_goto (tgt := 94) F dX4_append_75 (by decide) ?_
        refine gp_X4_69_X4 F dX4_append_94 mO_o hN.1 (nle rfl) rfl (fun h_e14 e14 => ?_)
        refine g_mput (iv2 := upd iv 7 1) e14 rfl ?_
        refine g_bipush (v := 24) F dX4_append_97 rfl ?_
        refine g_istore (lv' := [(4, .int 24), (0, .ref o), (1, .int x), (2, .int (nI (qMn x 4))), (3, .int (qRt x 4))]) F dX4_append_99 (by decide) rfl ?_
        refine g_iload F dX4_append_101 0 rfl ?_
        refine g_if_lt (tgt := 155) F dX4_append_103 (by decide) (fun c15 => absurd c15 (by decide)) (fun c15 => ?_)
        refine g_aload_n F dX4_append_106 1 rfl rfl ?_
        refine gf_X4_69_X4 (v := .int 1) F dX4_append_107 mO_o rfl ?_
        refine g_if_ne (tgt := 155) F dX4_append_110 (by decide) (fun c16 => ?_) (fun c16 => absurd c16 (by decide))
        refine g_aload_n F dX4_append_155 1 rfl rfl ?_
        refine gf_X4_69_X4 (v := .int 1) F dX4_append_156 mO_o rfl ?_
        refine g_if_le (tgt := 166) F dX4_append_159 (by decide) (fun c17 => absurd c17 (by decide)) (fun c17 => ?_)
        refine g_iconst (v := 0) F dX4_append_162 rfl ?_
        refine g_goto (tgt := 170) F dX4_append_163 (by decide) ?_
        have hr : qApp n x = (.inr 1 : xQ) := by unfold qApp; exact if_pos cr
        exact g_iret F dX4_append_170 (⟨by rw [hr]; rfl, by rw [(qApp_r (iv := iv) (av := av) hr).1, (qApp_r (iv := iv) (av := av) hr).2]; rfl⟩)
    · have hlt : k < 4 := by
        rcases Nat.lt_or_ge k 4 with q | q
        · exact q
        · exact absurd ((sh_lt hk).mpr (by omega)) c1
      refine g_iload_n F dX4_append_13 1 rfl rfl ?_
      refine g_iload F dX4_append_14 4 rfl ?_
      refine g_iushr F dX4_append_16 rfl ?_
      refine g_sipush (v := 255) F dX4_append_17 rfl ?_
      refine g_iand F dX4_append_20 ?_
      refine g_eqs (st' := [.int (qCd x k)]) rfl ?_
      refine g_istore (lv' := [(5, .int (qCd x k)), (0, .ref o), (1, .int x), (2, .int (nI (qMn x k))), (3, .int (qRt x k)), (4, .int (24 - 8 * nI k))]) F dX4_append_21 (by decide) rfl ?_
      refine g_iload_n F dX4_append_23 3 rfl rfl ?_
      refine g_iload F dX4_append_24 0 rfl ?_
      refine g_if_ne (tgt := 33) F dX4_append_26 (by decide) (fun c18 => ?_) (fun c18 => ?_)
      · have e2 : qMn x (k + 1) = qMn x k + 1 := by rw [qMn_s, if_neg c18]
        refine g_iconst (v := 1) F dX4_append_33 rfl ?_
        refine g_iadd F dX4_append_34 ?_
        refine g_istore_n (lv' := [(2, .int ((nI (qMn x k)) + 1)), (5, .int (qCd x k)), (0, .ref o), (1, .int x), (3, .int (qRt x k)), (4, .int (24 - 8 * nI k))]) F dX4_append_35 rfl (by decide) rfl ?_
        refine g_iload_n F dX4_append_36 4 rfl rfl ?_
        refine g_if_eq (tgt := 61) F dX4_append_37 (by decide) (fun c19 => ?_) (fun c19 => ?_)
        · have e3 : qRt x (k + 1) = 0 := by rw [qRt_s, if_neg (fun z => z.1 c19)]
          refine g_iconst (v := 0) F dX4_append_61 rfl ?_
          refine g_istore_n (lv' := [(3, .int 0), (2, .int ((nI (qMn x k)) + 1)), (5, .int (qCd x k)), (0, .ref o), (1, .int x), (4, .int (24 - 8 * nI k))]) F dX4_append_62 rfl (by decide) rfl ?_
          refine g_iinc (lv' := [(4, .int ((24 - 8 * nI k) + (-8))), (3, .int 0), (2, .int ((nI (qMn x k)) + 1)), (5, .int (qCd x k)), (0, .ref o), (1, .int x)]) (v := (24 - 8 * nI k) + (-8)) F dX4_append_63 (k := 5) rfl rfl (by decide) rfl ?_
          refine g_goto (tgt := 8) F dX4_append_66 (by decide) ?_
          refine g_lv (lv' := [(0, .ref o), (1, .int x), (2, .int ((nI (qMn x k)) + 1)), (3, .int 0), (4, .int ((24 - 8 * nI k) + (-8)))]) [4, 5, 2, 1, 0] rfl ?_
          exact g_eql (lv' := [(0, .ref o), (1, .int x), (2, .int (nI (qMn x (k + 1)))), (3, .int (qRt x (k + 1))), (4, .int (24 - 8 * nI (k + 1)))]) (by rw [e2, e3, ← sh_s hlt]; first | rfl | simp only [nI_1, Int32.add_zero]) (ih hlt)
        · have c3 := c19
          refine g_iload F dX4_append_40 1 rfl ?_
          refine g_if_eq (tgt := 57) F dX4_append_42 (by decide) (fun c20 => ?_) (fun c20 => ?_)
          · have e3 : qRt x (k + 1) = 1 := by rw [qRt_s, if_pos ⟨c3, .inl c20⟩]
            refine g_iconst (v := 1) F dX4_append_57 rfl ?_
            refine g_goto (tgt := 62) F dX4_append_58 (by decide) ?_
            refine g_istore_n (lv' := [(3, .int 1), (2, .int ((nI (qMn x k)) + 1)), (5, .int (qCd x k)), (0, .ref o), (1, .int x), (4, .int (24 - 8 * nI k))]) F dX4_append_62 rfl (by decide) rfl ?_
            refine g_iinc (lv' := [(4, .int ((24 - 8 * nI k) + (-8))), (3, .int 1), (2, .int ((nI (qMn x k)) + 1)), (5, .int (qCd x k)), (0, .ref o), (1, .int x)]) (v := (24 - 8 * nI k) + (-8)) F dX4_append_63 (k := 5) rfl rfl (by decide) rfl ?_
            refine g_goto (tgt := 8) F dX4_append_66 (by decide) ?_
            refine g_lv (lv' := [(0, .ref o), (1, .int x), (2, .int ((nI (qMn x k)) + 1)), (3, .int 1), (4, .int ((24 - 8 * nI k) + (-8)))]) [4, 5, 2, 1, 0] rfl ?_
            exact g_eql (lv' := [(0, .ref o), (1, .int x), (2, .int (nI (qMn x (k + 1)))), (3, .int (qRt x (k + 1))), (4, .int (24 - 8 * nI (k + 1)))]) (by rw [e2, e3, ← sh_s hlt]; first | rfl | simp only [nI_1, Int32.add_zero]) (ih hlt)
          · have c4 := c20
            refine g_iload F dX4_append_45 1 rfl ?_
            refine g_bipush (v := 32) F dX4_append_47 rfl ?_
            refine g_bipush (v := 126) F dX4_append_49 rfl ?_
            refine g_callS F dX4_append_51 mi_X4_in q2346 q2347 ct_X4_in rfl rfl (nle rfl) (nle rfl) (nle rfl) (g_pur ?_) g_purX
            refine g_if_eq (tgt := 61) F dX4_append_54 (by decide) (fun c21 => ?_) (fun c21 => ?_)
            · have e3 : qRt x (k + 1) = 0 := by rw [qRt_s, if_neg (fun z => z.2.elim c4 (fun w => w c21))]
              refine g_iconst (v := 0) F dX4_append_61 rfl ?_
              refine g_istore_n (lv' := [(3, .int 0), (2, .int ((nI (qMn x k)) + 1)), (5, .int (qCd x k)), (0, .ref o), (1, .int x), (4, .int (24 - 8 * nI k))]) F dX4_append_62 rfl (by decide) rfl ?_
              refine g_iinc (lv' := [(4, .int ((24 - 8 * nI k) + (-8))), (3, .int 0), (2, .int ((nI (qMn x k)) + 1)), (5, .int (qCd x k)), (0, .ref o), (1, .int x)]) (v := (24 - 8 * nI k) + (-8)) F dX4_append_63 (k := 5) rfl rfl (by decide) rfl ?_
              refine g_goto (tgt := 8) F dX4_append_66 (by decide) ?_
              refine g_lv (lv' := [(0, .ref o), (1, .int x), (2, .int ((nI (qMn x k)) + 1)), (3, .int 0), (4, .int ((24 - 8 * nI k) + (-8)))]) [4, 5, 2, 1, 0] rfl ?_
              exact g_eql (lv' := [(0, .ref o), (1, .int x), (2, .int (nI (qMn x (k + 1)))), (3, .int (qRt x (k + 1))), (4, .int (24 - 8 * nI (k + 1)))]) (by rw [e2, e3, ← sh_s hlt]; first | rfl | simp only [nI_1, Int32.add_zero]) (ih hlt)
            · have e3 : qRt x (k + 1) = 1 := by rw [qRt_s, if_pos ⟨c3, .inr c21⟩]
              refine g_iconst (v := 1) F dX4_append_57 rfl ?_
              refine g_goto (tgt := 62) F dX4_append_58 (by decide) ?_
              refine g_istore_n (lv' := [(3, .int 1), (2, .int ((nI (qMn x k)) + 1)), (5, .int (qCd x k)), (0, .ref o), (1, .int x), (4, .int (24 - 8 * nI k))]) F dX4_append_62 rfl (by decide) rfl ?_
              refine g_iinc (lv' := [(4, .int ((24 - 8 * nI k) + (-8))), (3, .int 1), (2, .int ((nI (qMn x k)) + 1)), (5, .int (qCd x k)), (0, .ref o), (1, .int x)]) (v := (24 - 8 * nI k) + (-8)) F dX4_append_63 (k := 5) rfl rfl (by decide) rfl ?_
              refine g_goto (tgt := 8) F dX4_append_66 (by decide) ?_
              refine g_lv (lv' := [(0, .ref o), (1, .int x), (2, .int ((nI (qMn x k)) + 1)), (3, .int 1), (4, .int ((24 - 8 * nI k) + (-8)))]) [4, 5, 2, 1, 0] rfl ?_
              exact g_eql (lv' := [(0, .ref o), (1, .int x), (2, .int (nI (qMn x (k + 1)))), (3, .int (qRt x (k + 1))), (4, .int (24 - 8 * nI (k + 1)))]) (by rw [e2, e3, ← sh_s hlt]; first | rfl | simp only [nI_1, Int32.add_zero]) (ih hlt)
      · have c0 : qCd x k = 0 := c18
        have e2 : qMn x (k + 1) = qMn x k := by rw [qMn_s, if_pos c0]; rfl
        refine g_iconst (v := 0) F dX4_append_29 rfl ?_
        refine g_goto (tgt := 34) F dX4_append_30 (by decide) ?_
        refine g_iadd F dX4_append_34 ?_
        refine g_istore_n (lv' := [(2, .int ((nI (qMn x k)) + 0)), (5, .int (qCd x k)), (0, .ref o), (1, .int x), (3, .int (qRt x k)), (4, .int (24 - 8 * nI k))]) F dX4_append_35 rfl (by decide) rfl ?_
        refine g_iload_n F dX4_append_36 4 rfl rfl ?_
        refine g_if_eq (tgt := 61) F dX4_append_37 (by decide) (fun c22 => ?_) (fun c22 => ?_)
        · have e3 : qRt x (k + 1) = 0 := by rw [qRt_s, if_neg (fun z => z.1 c22)]
          refine g_iconst (v := 0) F dX4_append_61 rfl ?_
          refine g_istore_n (lv' := [(3, .int 0), (2, .int ((nI (qMn x k)) + 0)), (5, .int (qCd x k)), (0, .ref o), (1, .int x), (4, .int (24 - 8 * nI k))]) F dX4_append_62 rfl (by decide) rfl ?_
          refine g_iinc (lv' := [(4, .int ((24 - 8 * nI k) + (-8))), (3, .int 0), (2, .int ((nI (qMn x k)) + 0)), (5, .int (qCd x k)), (0, .ref o), (1, .int x)]) (v := (24 - 8 * nI k) + (-8)) F dX4_append_63 (k := 5) rfl rfl (by decide) rfl ?_
          refine g_goto (tgt := 8) F dX4_append_66 (by decide) ?_
          refine g_lv (lv' := [(0, .ref o), (1, .int x), (2, .int ((nI (qMn x k)) + 0)), (3, .int 0), (4, .int ((24 - 8 * nI k) + (-8)))]) [4, 5, 2, 1, 0] rfl ?_
          exact g_eql (lv' := [(0, .ref o), (1, .int x), (2, .int (nI (qMn x (k + 1)))), (3, .int (qRt x (k + 1))), (4, .int (24 - 8 * nI (k + 1)))]) (by rw [e2, e3, ← sh_s hlt]; first | rfl | simp only [nI_1, Int32.add_zero]) (ih hlt)
        · have c3 := c22
          refine g_iload F dX4_append_40 1 rfl ?_
          refine g_if_eq (tgt := 57) F dX4_append_42 (by decide) (fun c23 => ?_) (fun c23 => ?_)
          · have e3 : qRt x (k + 1) = 1 := by rw [qRt_s, if_pos ⟨c3, .inl c23⟩]
            refine g_iconst (v := 1) F dX4_append_57 rfl ?_
            refine g_goto (tgt := 62) F dX4_append_58 (by decide) ?_
            refine g_istore_n (lv' := [(3, .int 1), (2, .int ((nI (qMn x k)) + 0)), (5, .int (qCd x k)), (0, .ref o), (1, .int x), (4, .int (24 - 8 * nI k))]) F dX4_append_62 rfl (by decide) rfl ?_
            refine g_iinc (lv' := [(4, .int ((24 - 8 * nI k) + (-8))), (3, .int 1), (2, .int ((nI (qMn x k)) + 0)), (5, .int (qCd x k)), (0, .ref o), (1, .int x)]) (v := (24 - 8 * nI k) + (-8)) F dX4_append_63 (k := 5) rfl rfl (by decide) rfl ?_
            refine g_goto (tgt := 8) F dX4_append_66 (by decide) ?_
            refine g_lv (lv' := [(0, .ref o), (1, .int x), (2, .int ((nI (qMn x k)) + 0)), (3, .int 1), (4, .int ((24 - 8 * nI k) + (-8)))]) [4, 5, 2, 1, 0] rfl ?_
            exact g_eql (lv' := [(0, .ref o), (1, .int x), (2, .int (nI (qMn x (k + 1)))), (3, .int (qRt x (k + 1))), (4, .int (24 - 8 * nI (k + 1)))]) (by rw [e2, e3, ← sh_s hlt]; first | rfl | simp only [nI_1, Int32.add_zero]) (ih hlt)
          · have c4 := c23
            refine g_iload F dX4_append_45 1 rfl ?_
            refine g_bipush (v := 32) F dX4_append_47 rfl ?_
            refine g_bipush (v := 126) F dX4_append_49 rfl ?_
            refine g_callS F dX4_append_51 mi_X4_in q2346 q2347 ct_X4_in rfl rfl (nle rfl) (nle rfl) (nle rfl) (g_pur ?_) g_purX
            refine g_if_eq (tgt := 61) F dX4_append_54 (by decide) (fun c24 => ?_) (fun c24 => ?_)
            · have e3 : qRt x (k + 1) = 0 := by rw [qRt_s, if_neg (fun z => z.2.elim c4 (fun w => w c24))]
              refine g_iconst (v := 0) F dX4_append_61 rfl ?_
              refine g_istore_n (lv' := [(3, .int 0), (2, .int ((nI (qMn x k)) + 0)), (5, .int (qCd x k)), (0, .ref o), (1, .int x), (4, .int (24 - 8 * nI k))]) F dX4_append_62 rfl (by decide) rfl ?_
              refine g_iinc (lv' := [(4, .int ((24 - 8 * nI k) + (-8))), (3, .int 0), (2, .int ((nI (qMn x k)) + 0)), (5, .int (qCd x k)), (0, .ref o), (1, .int x)]) (v := (24 - 8 * nI k) + (-8)) F dX4_append_63 (k := 5) rfl rfl (by decide) rfl ?_
              refine g_goto (tgt := 8) F dX4_append_66 (by decide) ?_
              refine g_lv (lv' := [(0, .ref o), (1, .int x), (2, .int ((nI (qMn x k)) + 0)), (3, .int 0), (4, .int ((24 - 8 * nI k) + (-8)))]) [4, 5, 2, 1, 0] rfl ?_
              exact g_eql (lv' := [(0, .ref o), (1, .int x), (2, .int (nI (qMn x (k + 1)))), (3, .int (qRt x (k + 1))), (4, .int (24 - 8 * nI (k + 1)))]) (by rw [e2, e3, ← sh_s hlt]; first | rfl | simp only [nI_1, Int32.add_zero]) (ih hlt)
            · have e3 : qRt x (k + 1) = 1 := by rw [qRt_s, if_pos ⟨c3, .inr c24⟩]
              refine g_iconst (v := 1) F dX4_append_57 rfl ?_
              refine g_goto (tgt := 62) F dX4_append_58 (by decide) ?_
              refine g_istore_n (lv' := [(3, .int 1), (2, .int ((nI (qMn x k)) + 0)), (5, .int (qCd x k)), (0, .ref o), (1, .int x), (4, .int (24 - 8 * nI k))]) F dX4_append_62 rfl (by decide) rfl ?_
              refine g_iinc (lv' := [(4, .int ((24 - 8 * nI k) + (-8))), (3, .int 1), (2, .int ((nI (qMn x k)) + 0)), (5, .int (qCd x k)), (0, .ref o), (1, .int x)]) (v := (24 - 8 * nI k) + (-8)) F dX4_append_63 (k := 5) rfl rfl (by decide) rfl ?_
              refine g_goto (tgt := 8) F dX4_append_66 (by decide) ?_
              refine g_lv (lv' := [(0, .ref o), (1, .int x), (2, .int ((nI (qMn x k)) + 0)), (3, .int 1), (4, .int ((24 - 8 * nI k) + (-8)))]) [4, 5, 2, 1, 0] rfl ?_
              exact g_eql (lv' := [(0, .ref o), (1, .int x), (2, .int (nI (qMn x (k + 1)))), (3, .int (qRt x (k + 1))), (4, .int (24 - 8 * nI (k + 1)))]) (by rw [e2, e3, ← sh_s hlt]; first | rfl | simp only [nI_1, Int32.add_zero]) (ih hlt)
  exact lp 0 (Nat.zero_le _)
