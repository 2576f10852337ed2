/-! ===== THE REFERENCE: <init> (written by tools/model14.py) ===== -/
theorem mO_mk {K : gK} {h h1 : AH} {o : Nat} {L : Nat → Nat} {iv : Nat → Int32} {av : Nat → Nat → Int32} (h0 : h1 o = some (.inr (0, mF L iv))) (a0 : h1 (L 0) = some (.inl (gT K 0, 131, .inl (av 0)))) (a1 : h1 (L 1) = some (.inl (gT K 0, 131, .inl (av 1)))) (a2 : h1 (L 2) = some (.inl (gT K 0, 131, .inl (av 2)))) (a3 : h1 (L 3) = some (.inl (gT K 0, 131, .inl (av 3)))) (a5 : h1 (L 5) = some (.inl (gT K 0, 1048, .inl (av 5)))) (a10 : h1 (L 10) = some (.inl (gT K 3, 200, .inl (av 10)))) (a12 : h1 (L 12) = some (.inl (gT K 7, 9, .inr (.inr (.inr (.inr (mWd K))))))) (a13 : h1 (L 13) = some (.inl (gT K 0, 60, .inl (av 13)))) (a19 : h1 (L 19) = some (.inl (gT K 0, 180, .inl (av 19))))
    (hr : ∀ a, a ≠ o → a ≠ L 0 → a ≠ L 1 → a ≠ L 2 → a ≠ L 3 → a ≠ L 5 → a ≠ L 10 → a ≠ L 12 → a ≠ L 13 → a ≠ L 19 → h1 a = h a) : h1 = mO K h o L iv av := by
  funext a
  unfold mO
  split
  · rename_i q; rw [q]; exact h0
  · split
    · rename_i q; rw [q]; exact a0
    · split
      · rename_i q; rw [q]; exact a1
      · split
        · rename_i q; rw [q]; exact a2
        · split
          · rename_i q; rw [q]; exact a3
          · split
            · rename_i q; rw [q]; exact a5
            · split
              · rename_i q; rw [q]; exact a10
              · split
                · rename_i q; rw [q]; exact a12
                · split
                  · rename_i q; rw [q]; exact a13
                  · split
                    · rename_i q; rw [q]; exact a19
                    · exact hr a ‹_› ‹_› ‹_› ‹_› ‹_› ‹_› ‹_› ‹_› ‹_› ‹_›

def mLL (q0 q1 q2 q3 q5 q10 q12 q13 q19 : Nat) : Nat → Nat := fun i => match i with
  | 0 => q0
  | 1 => q1
  | 2 => q2
  | 3 => q3
  | 5 => q5
  | 10 => q10
  | 12 => q12
  | 13 => q13
  | 19 => q19
  | _ => 0
theorem mN_mk {K : gK} {o q0 q1 q2 q3 q5 q10 q12 q13 q19 : Nat} (ho : gOld K o = none) (h0 : gOld K q0 = none) (h1 : gOld K q1 = none) (h2 : gOld K q2 = none) (h3 : gOld K q3 = none) (h5 : gOld K q5 = none) (h10 : gOld K q10 = none) (h12 : gOld K q12 = none) (h13 : gOld K q13 = none) (h19 : gOld K q19 = none)
    (n0 : q0 ≠ o) (n1 : q1 ≠ o) (n2 : q2 ≠ o) (n3 : q3 ≠ o) (n5 : q5 ≠ o) (n10 : q10 ≠ o) (n12 : q12 ≠ o) (n13 : q13 ≠ o) (n19 : q19 ≠ o) (hd : [q0, q1, q2, q3, q5, q10, q12, q13, q19].Nodup) : mN K o (mLL q0 q1 q2 q3 q5 q10 q12 q13 q19) := by
  refine ⟨ho, ?_, ?_, ?_⟩
  · intro i hi
    simp only [mJ, List.mem_cons, List.not_mem_nil, or_false] at hi
    rcases hi with rfl | rfl | rfl | rfl | rfl | rfl | rfl | rfl | rfl <;> assumption
  · intro i hi
    simp only [mJ, List.mem_cons, List.not_mem_nil, or_false] at hi
    rcases hi with rfl | rfl | rfl | rfl | rfl | rfl | rfl | rfl | rfl <;> assumption
  · intro i hi j hj e
    have hl : ∀ a b : Nat, a < 9 → b < 9 → a ≠ b → [q0, q1, q2, q3, q5, q10, q12, q13, q19][a]? ≠ [q0, q1, q2, q3, q5, q10, q12, q13, q19][b]? := by
      intro a b ha hb hab z
      exact hab ((List.getElem?_inj (by simpa using ha) hd).mp z)
    simp only [mJ, List.mem_cons, List.not_mem_nil, or_false] at hi hj
    have key : ∀ a b : Nat, a < 9 → b < 9 → [q0, q1, q2, q3, q5, q10, q12, q13, q19][a]? = [q0, q1, q2, q3, q5, q10, q12, q13, q19][b]? → a = b := fun a b ha hb z => Classical.byContradiction (fun w => hl a b ha hb w z)
    rcases hi with rfl | rfl | rfl | rfl | rfl | rfl | rfl | rfl | rfl <;> rcases hj with rfl | rfl | rfl | rfl | rfl | rfl | rfl | rfl | rfl <;> first
      | rfl
      | exact absurd (key 0 1 (by decide) (by decide) (congrArg some e)) (by decide)
      | exact absurd (key 0 2 (by decide) (by decide) (congrArg some e)) (by decide)
      | (exfalso
         simp only [mLL] at e
         simp only [List.nodup_cons, List.mem_cons, List.not_mem_nil, or_false, not_or] at hd
         obtain ⟨⟨a1, a2, a3, a4, a5, a6, a7, a8⟩, ⟨b2, b3, b4, b5, b6, b7, b8⟩, ⟨c3, c4, c5, c6, c7, c8⟩, ⟨d4, d5, d6, d7, d8⟩, ⟨e5, e6, e7, e8⟩, ⟨f6, f7, f8⟩, ⟨g7, g8⟩, g9, -⟩ := hd
         first | exact absurd e (by assumption) | exact absurd e.symm (by assumption))
def iv00 : Nat → Int32 := fun i => if i = 17 then -1 else if i = 18 then -1 else 0

theorem gneO {K : gK} {x a : Nat} {e : va_E} (hx : gOld K x = some e) (ha : gOld K a = none) : x ≠ a := by
  rintro rfl
  rw [hx] at ha
  cases ha
set_option maxHeartbeats 4000000 in
set_option maxRecDepth 100000 in
theorem ct_X4_init {K : gK} {h : AH} {o : Nat} (hS : gKS K) (h0 : h o = some (.inr (0, [.null, .null, .null, .null, .int 0, .null, .int 0, .int 0, .int 0, .int 0, .null, .int 0, .null, .null, .int 0, .int 0, .int 0, .int 0, .int 0, .null, .int 0]))) (ho : gOld K o = none) : gCt K yX4_init w_X4_init 1 21 9 2021 h [.ref o] (fun r h1 => r = .inl none ∧ ∃ L, mN K o L ∧ h1 = mO K h o L iv00 (mu (fun _ _ => 0) 0 x0)) := by
  refine g_meth pf_X4_init (nle rfl) (fun p e s m args below meth c F hnm htb => ?_)
  have F : gFix K p s m args meth c cX4_init 1 RX4 none := F
  refine g_eql (lv' := [(0, .ref o)]) rfl ?_
  refine g_aload_n F dX4_init_0 0 rfl rfl ?_
  refine g_objInit F q2244 q124 q125 dX4_init_1 (nle rfl) (nle rfl) ?_
  refine g_aload_n F dX4_init_4 0 rfl rfl ?_
  refine g_sipush (v := 131) F dX4_init_5 rfl ?_
  refine g_newa (t := 0) (atype := .int) (N := 131) (d := .inl (fun _ => 0)) (b := 8) (bs := 1890) F q2323 (by decide) rfl (fun _ => rfl) dX4_init_8 (by decide) rfl (by decide) (fun q1 h_2 hn_e3 ho_e3 e3 => ?_)
  have ne4 : o ≠ q1 := gnew hn_e3 h0
  have f5 := gu_t e3 h0 (gnew hn_e3 h0)
  have f6 := gu_a e3
  refine gp_X4_9_X4 (fs' := [.ref q1, .null, .null, .null, .int 0, .null, .int 0, .int 0, .int 0, .int 0, .null, .int 0, .null, .null, .int 0, .int 0, .int 0, .int 0, .int 0, .null, .int 0]) F hnm dX4_init_10 (Or.inr ⟨_, rfl⟩) f5 ho (nle rfl) rfl (fun h_7 e8 => ?_)
  have f9 := gu_t e8 f6 (Ne.symm ne4)
  have f10 := gu_a e8
  refine g_aload_n F dX4_init_13 0 rfl rfl ?_
  refine g_sipush (v := 131) F dX4_init_14 rfl ?_
  refine g_newa (t := 0) (atype := .int) (N := 131) (d := .inl (fun _ => 0)) (b := 7) (bs := 1759) F q2323 (by decide) rfl (fun _ => rfl) dX4_init_17 (by decide) rfl (by decide) (fun q11 h_12 hn_e13 ho_e13 e13 => ?_)
  have ne14 : q1 ≠ q11 := gnew hn_e13 f9
  have ne15 : o ≠ q11 := gnew hn_e13 f10
  have f16 := gu_t e13 f9 (gnew hn_e13 f9)
  have f17 := gu_t e13 f10 (gnew hn_e13 f10)
  have f18 := gu_a e13
  refine gp_X4_13_X4 (fs' := [.ref q1, .ref q11, .null, .null, .int 0, .null, .int 0, .int 0, .int 0, .int 0, .null, .int 0, .null, .null, .int 0, .int 0, .int 0, .int 0, .int 0, .null, .int 0]) F hnm dX4_init_19 (Or.inr ⟨_, rfl⟩) f17 ho (nle rfl) rfl (fun h_19 e20 => ?_)
  have f21 := gu_t e20 f16 (Ne.symm ne4)
  have f22 := gu_t e20 f18 (Ne.symm ne15)
  have f23 := gu_a e20
  refine g_aload_n F dX4_init_22 0 rfl rfl ?_
  refine g_sipush (v := 131) F dX4_init_23 rfl ?_
  refine g_newa (t := 0) (atype := .int) (N := 131) (d := .inl (fun _ => 0)) (b := 6) (bs := 1628) F q2323 (by decide) rfl (fun _ => rfl) dX4_init_26 (by decide) rfl (by decide) (fun q24 h_25 hn_e26 ho_e26 e26 => ?_)
  have ne27 : q1 ≠ q24 := gnew hn_e26 f21
  have ne28 : q11 ≠ q24 := gnew hn_e26 f22
  have ne29 : o ≠ q24 := gnew hn_e26 f23
  have f30 := gu_t e26 f21 (gnew hn_e26 f21)
  have f31 := gu_t e26 f22 (gnew hn_e26 f22)
  have f32 := gu_t e26 f23 (gnew hn_e26 f23)
  have f33 := gu_a e26
  refine gp_X4_16_X4 (fs' := [.ref q1, .ref q11, .ref q24, .null, .int 0, .null, .int 0, .int 0, .int 0, .int 0, .null, .int 0, .null, .null, .int 0, .int 0, .int 0, .int 0, .int 0, .null, .int 0]) F hnm dX4_init_28 (Or.inr ⟨_, rfl⟩) f32 ho (nle rfl) rfl (fun h_34 e35 => ?_)
  have f36 := gu_t e35 f30 (Ne.symm ne4)
  have f37 := gu_t e35 f31 (Ne.symm ne15)
  have f38 := gu_t e35 f33 (Ne.symm ne29)
  have f39 := gu_a e35
  refine g_aload_n F dX4_init_31 0 rfl rfl ?_
  refine g_sipush (v := 131) F dX4_init_32 rfl ?_
  refine g_newa (t := 0) (atype := .int) (N := 131) (d := .inl (fun _ => 0)) (b := 5) (bs := 1497) F q2323 (by decide) rfl (fun _ => rfl) dX4_init_35 (by decide) rfl (by decide) (fun q40 h_41 hn_e42 ho_e42 e42 => ?_)
  have ne43 : q1 ≠ q40 := gnew hn_e42 f36
  have ne44 : q11 ≠ q40 := gnew hn_e42 f37
  have ne45 : q24 ≠ q40 := gnew hn_e42 f38
  have ne46 : o ≠ q40 := gnew hn_e42 f39
  have f47 := gu_t e42 f36 (gnew hn_e42 f36)
  have f48 := gu_t e42 f37 (gnew hn_e42 f37)
  have f49 := gu_t e42 f38 (gnew hn_e42 f38)
  have f50 := gu_t e42 f39 (gnew hn_e42 f39)
  have f51 := gu_a e42
  refine gp_X4_19_X4 (fs' := [.ref q1, .ref q11, .ref q24, .ref q40, .int 0, .null, .int 0, .int 0, .int 0, .int 0, .null, .int 0, .null, .null, .int 0, .int 0, .int 0, .int 0, .int 0, .null, .int 0]) F hnm dX4_init_37 (Or.inr ⟨_, rfl⟩) f50 ho (nle rfl) rfl (fun h_52 e53 => ?_)
  have f54 := gu_t e53 f47 (Ne.symm ne4)
  have f55 := gu_t e53 f48 (Ne.symm ne15)
  have f56 := gu_t e53 f49 (Ne.symm ne29)
  have f57 := gu_t e53 f51 (Ne.symm ne46)
  have f58 := gu_a e53
  refine g_aload_n F dX4_init_40 0 rfl rfl ?_
  refine g_sipush (v := 1048) F dX4_init_41 rfl ?_
  refine g_newa (t := 0) (atype := .int) (N := 1048) (d := .inl (fun _ => 0)) (b := 4) (bs := 449) F q2323 (by decide) rfl (fun _ => rfl) dX4_init_44 (by decide) rfl (by decide) (fun q59 h_60 hn_e61 ho_e61 e61 => ?_)
  have ne62 : q1 ≠ q59 := gnew hn_e61 f54
  have ne63 : q11 ≠ q59 := gnew hn_e61 f55
  have ne64 : q24 ≠ q59 := gnew hn_e61 f56
  have ne65 : q40 ≠ q59 := gnew hn_e61 f57
  have ne66 : o ≠ q59 := gnew hn_e61 f58
  have f67 := gu_t e61 f54 (gnew hn_e61 f54)
  have f68 := gu_t e61 f55 (gnew hn_e61 f55)
  have f69 := gu_t e61 f56 (gnew hn_e61 f56)
  have f70 := gu_t e61 f57 (gnew hn_e61 f57)
  have f71 := gu_t e61 f58 (gnew hn_e61 f58)
  have f72 := gu_a e61
  refine gp_X4_22_X4 (fs' := [.ref q1, .ref q11, .ref q24, .ref q40, .int 0, .ref q59, .int 0, .int 0, .int 0, .int 0, .null, .int 0, .null, .null, .int 0, .int 0, .int 0, .int 0, .int 0, .null, .int 0]) F hnm dX4_init_46 (Or.inr ⟨_, rfl⟩) f71 ho (nle rfl) rfl (fun h_73 e74 => ?_)
  have f75 := gu_t e74 f67 (Ne.symm ne4)
  have f76 := gu_t e74 f68 (Ne.symm ne15)
  have f77 := gu_t e74 f69 (Ne.symm ne29)
  have f78 := gu_t e74 f70 (Ne.symm ne46)
  have f79 := gu_t e74 f72 (Ne.symm ne66)
  have f80 := gu_a e74
  refine g_aload_n F dX4_init_49 0 rfl rfl ?_
  refine g_sipush (v := 200) F dX4_init_50 rfl ?_
  refine g_newa (t := 3) (atype := .char) (N := 200) (d := .inl (fun _ => 0)) (b := 3) (bs := 249) F q2324 (by decide) rfl (fun _ => rfl) dX4_init_53 (by decide) rfl (by decide) (fun q81 h_82 hn_e83 ho_e83 e83 => ?_)
  have ne84 : q1 ≠ q81 := gnew hn_e83 f75
  have ne85 : q11 ≠ q81 := gnew hn_e83 f76
  have ne86 : q24 ≠ q81 := gnew hn_e83 f77
  have ne87 : q40 ≠ q81 := gnew hn_e83 f78
  have ne88 : q59 ≠ q81 := gnew hn_e83 f79
  have ne89 : o ≠ q81 := gnew hn_e83 f80
  have f90 := gu_t e83 f75 (gnew hn_e83 f75)
  have f91 := gu_t e83 f76 (gnew hn_e83 f76)
  have f92 := gu_t e83 f77 (gnew hn_e83 f77)
  have f93 := gu_t e83 f78 (gnew hn_e83 f78)
  have f94 := gu_t e83 f79 (gnew hn_e83 f79)
  have f95 := gu_t e83 f80 (gnew hn_e83 f80)
  have f96 := gu_a e83
  refine gp_X4_25_X4 (fs' := [.ref q1, .ref q11, .ref q24, .ref q40, .int 0, .ref q59, .int 0, .int 0, .int 0, .int 0, .ref q81, .int 0, .null, .null, .int 0, .int 0, .int 0, .int 0, .int 0, .null, .int 0]) F hnm dX4_init_55 (Or.inr ⟨_, rfl⟩) f95 ho (nle rfl) rfl (fun h_97 e98 => ?_)
  have f99 := gu_t e98 f90 (Ne.symm ne4)
  have f100 := gu_t e98 f91 (Ne.symm ne15)
  have f101 := gu_t e98 f92 (Ne.symm ne29)
  have f102 := gu_t e98 f93 (Ne.symm ne46)
  have f103 := gu_t e98 f94 (Ne.symm ne66)
  have f104 := gu_t e98 f96 (Ne.symm ne89)
  have f105 := gu_a e98
  refine g_aload_n F dX4_init_58 0 rfl rfl ?_
  refine g_bipush (v := 9) F dX4_init_59 rfl ?_
  refine g_newq (t := 7) (N := 9) (b := 2) (bs := 240) F q2245 F.hN.2.2.2.1 (by decide) rfl dX4_init_61 (by decide) rfl (by decide) (fun q106 h_107 hn_e108 ho_e108 e108 => ?_)
  have ne109 : q1 ≠ q106 := gnew hn_e108 f99
  have ne110 : q11 ≠ q106 := gnew hn_e108 f100
  have ne111 : q24 ≠ q106 := gnew hn_e108 f101
  have ne112 : q40 ≠ q106 := gnew hn_e108 f102
  have ne113 : q59 ≠ q106 := gnew hn_e108 f103
  have ne114 : q81 ≠ q106 := gnew hn_e108 f104
  have ne115 : o ≠ q106 := gnew hn_e108 f105
  have f116 := gu_t e108 f99 (gnew hn_e108 f99)
  have f117 := gu_t e108 f100 (gnew hn_e108 f100)
  have f118 := gu_t e108 f101 (gnew hn_e108 f101)
  have f119 := gu_t e108 f102 (gnew hn_e108 f102)
  have f120 := gu_t e108 f103 (gnew hn_e108 f103)
  have f121 := gu_t e108 f104 (gnew hn_e108 f104)
  have f122 := gu_t e108 f105 (gnew hn_e108 f105)
  have f123 := gu_a e108
  refine g_dup F dX4_init_64 rfl ?_
  refine g_iconst (v := 0) F dX4_init_65 rfl ?_
  refine g_ldcS (i := 52) (id := 9) F rfl dX4_init_66 ?_
  obtain ⟨bu124, vu124, zu124, ou124, pu124⟩ := hS 9 (by decide)
  refine g_old ou124 (fun fu124 => ?_)
  refine g_old pu124 (fun tu124 => ?_)
  refine g_aastN2 (t := 7) (i := 0) F (by decide) rfl gc_J6 gFit.rf f123 ho_e108 fu124 (rfl : (0 : Int32) = nI 0) (show 0 = 0 by omega) (by omega) (by decide) dX4_init_68 (fun h_125 e126 => ?_)
  have f127 := gu_t e126 f116 ne109
  have f128 := gu_t e126 f117 ne110
  have f129 := gu_t e126 f118 ne111
  have f130 := gu_t e126 f119 ne112
  have f131 := gu_t e126 f120 ne113
  have f132 := gu_t e126 f121 ne114
  have f133 := gu_t e126 f122 ne115
  have f134 := gu_t e126 fu124 (gneO ou124 ho_e108)
  have f135 := gu_t e126 tu124 (gneO pu124 ho_e108)
  have f136 := gu_a e126
  refine g_dup F dX4_init_69 rfl ?_
  refine g_iconst (v := 1) F dX4_init_70 rfl ?_
  refine g_ldcS (i := 53) (id := 10) F rfl dX4_init_71 ?_
  obtain ⟨bu137, vu137, zu137, ou137, pu137⟩ := hS 10 (by decide)
  refine g_old ou137 (fun fu137 => ?_)
  refine g_old pu137 (fun tu137 => ?_)
  refine g_aastN2 (t := 7) (i := 1) F (by decide) rfl gc_J6 gFit.rf f136 ho_e108 fu137 (rfl : (1 : Int32) = nI 1) (show 1 = 1 by omega) (by omega) (by decide) dX4_init_73 (fun h_138 e139 => ?_)
  have f140 := gu_t e139 f127 ne109
  have f141 := gu_t e139 f128 ne110
  have f142 := gu_t e139 f129 ne111
  have f143 := gu_t e139 f130 ne112
  have f144 := gu_t e139 f131 ne113
  have f145 := gu_t e139 f132 ne114
  have f146 := gu_t e139 f133 ne115
  have f147 := gu_t e139 f134 (gneO ou124 ho_e108)
  have f148 := gu_t e139 f135 (gneO pu124 ho_e108)
  have f149 := gu_t e139 fu137 (gneO ou137 ho_e108)
  have f150 := gu_t e139 tu137 (gneO pu137 ho_e108)
  have f151 := gu_a e139
  refine g_dup F dX4_init_74 rfl ?_
  refine g_iconst (v := 2) F dX4_init_75 rfl ?_
  refine g_ldcS (i := 54) (id := 11) F rfl dX4_init_76 ?_
  obtain ⟨bu152, vu152, zu152, ou152, pu152⟩ := hS 11 (by decide)
  refine g_old ou152 (fun fu152 => ?_)
  refine g_old pu152 (fun tu152 => ?_)
  refine g_aastN2 (t := 7) (i := 2) F (by decide) rfl gc_J6 gFit.rf f151 ho_e108 fu152 (rfl : (2 : Int32) = nI 2) (show 2 = 2 by omega) (by omega) (by decide) dX4_init_78 (fun h_153 e154 => ?_)
  have f155 := gu_t e154 f140 ne109
  have f156 := gu_t e154 f141 ne110
  have f157 := gu_t e154 f142 ne111
  have f158 := gu_t e154 f143 ne112
  have f159 := gu_t e154 f144 ne113
  have f160 := gu_t e154 f145 ne114
  have f161 := gu_t e154 f146 ne115
  have f162 := gu_t e154 f147 (gneO ou124 ho_e108)
  have f163 := gu_t e154 f148 (gneO pu124 ho_e108)
  have f164 := gu_t e154 f149 (gneO ou137 ho_e108)
  have f165 := gu_t e154 f150 (gneO pu137 ho_e108)
  have f166 := gu_t e154 fu152 (gneO ou152 ho_e108)
  have f167 := gu_t e154 tu152 (gneO pu152 ho_e108)
  have f168 := gu_a e154
  refine g_dup F dX4_init_79 rfl ?_
  refine g_iconst (v := 3) F dX4_init_80 rfl ?_
  refine g_ldcS (i := 55) (id := 12) F rfl dX4_init_81 ?_
  obtain ⟨bu169, vu169, zu169, ou169, pu169⟩ := hS 12 (by decide)
  refine g_old ou169 (fun fu169 => ?_)
  refine g_old pu169 (fun tu169 => ?_)
  refine g_aastN2 (t := 7) (i := 3) F (by decide) rfl gc_J6 gFit.rf f168 ho_e108 fu169 (rfl : (3 : Int32) = nI 3) (show 3 = 3 by omega) (by omega) (by decide) dX4_init_83 (fun h_170 e171 => ?_)
  have f172 := gu_t e171 f155 ne109
  have f173 := gu_t e171 f156 ne110
  have f174 := gu_t e171 f157 ne111
  have f175 := gu_t e171 f158 ne112
  have f176 := gu_t e171 f159 ne113
  have f177 := gu_t e171 f160 ne114
  have f178 := gu_t e171 f161 ne115
  have f179 := gu_t e171 f162 (gneO ou124 ho_e108)
  have f180 := gu_t e171 f163 (gneO pu124 ho_e108)
  have f181 := gu_t e171 f164 (gneO ou137 ho_e108)
  have f182 := gu_t e171 f165 (gneO pu137 ho_e108)
  have f183 := gu_t e171 f166 (gneO ou152 ho_e108)
  have f184 := gu_t e171 f167 (gneO pu152 ho_e108)
  have f185 := gu_t e171 fu169 (gneO ou169 ho_e108)
  have f186 := gu_t e171 tu169 (gneO pu169 ho_e108)
  have f187 := gu_a e171
  refine g_dup F dX4_init_84 rfl ?_
  refine g_iconst (v := 4) F dX4_init_85 rfl ?_
  refine g_ldcS (i := 56) (id := 13) F rfl dX4_init_86 ?_
  obtain ⟨bu188, vu188, zu188, ou188, pu188⟩ := hS 13 (by decide)
  refine g_old ou188 (fun fu188 => ?_)
  refine g_old pu188 (fun tu188 => ?_)
  refine g_aastN2 (t := 7) (i := 4) F (by decide) rfl gc_J6 gFit.rf f187 ho_e108 fu188 (rfl : (4 : Int32) = nI 4) (show 4 = 4 by omega) (by omega) (by decide) dX4_init_88 (fun h_189 e190 => ?_)
  have f191 := gu_t e190 f172 ne109
  have f192 := gu_t e190 f173 ne110
  have f193 := gu_t e190 f174 ne111
  have f194 := gu_t e190 f175 ne112
  have f195 := gu_t e190 f176 ne113
  have f196 := gu_t e190 f177 ne114
  have f197 := gu_t e190 f178 ne115
  have f198 := gu_t e190 f179 (gneO ou124 ho_e108)
  have f199 := gu_t e190 f180 (gneO pu124 ho_e108)
  have f200 := gu_t e190 f181 (gneO ou137 ho_e108)
  have f201 := gu_t e190 f182 (gneO pu137 ho_e108)
  have f202 := gu_t e190 f183 (gneO ou152 ho_e108)
  have f203 := gu_t e190 f184 (gneO pu152 ho_e108)
  have f204 := gu_t e190 f185 (gneO ou169 ho_e108)
  have f205 := gu_t e190 f186 (gneO pu169 ho_e108)
  have f206 := gu_t e190 fu188 (gneO ou188 ho_e108)
  have f207 := gu_t e190 tu188 (gneO pu188 ho_e108)
  have f208 := gu_a e190
  refine g_dup F dX4_init_89 rfl ?_
  refine g_iconst (v := 5) F dX4_init_90 rfl ?_
  refine g_ldcS (i := 57) (id := 14) F rfl dX4_init_91 ?_
  obtain ⟨bu209, vu209, zu209, ou209, pu209⟩ := hS 14 (by decide)
  refine g_old ou209 (fun fu209 => ?_)
  refine g_old pu209 (fun tu209 => ?_)
  refine g_aastN2 (t := 7) (i := 5) F (by decide) rfl gc_J6 gFit.rf f208 ho_e108 fu209 (rfl : (5 : Int32) = nI 5) (show 5 = 5 by omega) (by omega) (by decide) dX4_init_93 (fun h_210 e211 => ?_)
  have f212 := gu_t e211 f191 ne109
  have f213 := gu_t e211 f192 ne110
  have f214 := gu_t e211 f193 ne111
  have f215 := gu_t e211 f194 ne112
  have f216 := gu_t e211 f195 ne113
  have f217 := gu_t e211 f196 ne114
  have f218 := gu_t e211 f197 ne115
  have f219 := gu_t e211 f198 (gneO ou124 ho_e108)
  have f220 := gu_t e211 f199 (gneO pu124 ho_e108)
  have f221 := gu_t e211 f200 (gneO ou137 ho_e108)
  have f222 := gu_t e211 f201 (gneO pu137 ho_e108)
  have f223 := gu_t e211 f202 (gneO ou152 ho_e108)
  have f224 := gu_t e211 f203 (gneO pu152 ho_e108)
  have f225 := gu_t e211 f204 (gneO ou169 ho_e108)
  have f226 := gu_t e211 f205 (gneO pu169 ho_e108)
  have f227 := gu_t e211 f206 (gneO ou188 ho_e108)
  have f228 := gu_t e211 f207 (gneO pu188 ho_e108)
  have f229 := gu_t e211 fu209 (gneO ou209 ho_e108)
  have f230 := gu_t e211 tu209 (gneO pu209 ho_e108)
  have f231 := gu_a e211
  refine g_dup F dX4_init_94 rfl ?_
  refine g_bipush (v := 6) F dX4_init_95 rfl ?_
  refine g_ldcS (i := 58) (id := 15) F rfl dX4_init_97 ?_
  obtain ⟨bu232, vu232, zu232, ou232, pu232⟩ := hS 15 (by decide)
  refine g_old ou232 (fun fu232 => ?_)
  refine g_old pu232 (fun tu232 => ?_)
  refine g_aastN2 (t := 7) (i := 6) F (by decide) rfl gc_J6 gFit.rf f231 ho_e108 fu232 (rfl : (6 : Int32) = nI 6) (show 6 = 6 by omega) (by omega) (by decide) dX4_init_99 (fun h_233 e234 => ?_)
  have f235 := gu_t e234 f212 ne109
  have f236 := gu_t e234 f213 ne110
  have f237 := gu_t e234 f214 ne111
  have f238 := gu_t e234 f215 ne112
  have f239 := gu_t e234 f216 ne113
  have f240 := gu_t e234 f217 ne114
  have f241 := gu_t e234 f218 ne115
  have f242 := gu_t e234 f219 (gneO ou124 ho_e108)
  have f243 := gu_t e234 f220 (gneO pu124 ho_e108)
  have f244 := gu_t e234 f221 (gneO ou137 ho_e108)
  have f245 := gu_t e234 f222 (gneO pu137 ho_e108)
  have f246 := gu_t e234 f223 (gneO ou152 ho_e108)
  have f247 := gu_t e234 f224 (gneO pu152 ho_e108)
  have f248 := gu_t e234 f225 (gneO ou169 ho_e108)
  have f249 := gu_t e234 f226 (gneO pu169 ho_e108)
  have f250 := gu_t e234 f227 (gneO ou188 ho_e108)
  have f251 := gu_t e234 f228 (gneO pu188 ho_e108)
  have f252 := gu_t e234 f229 (gneO ou209 ho_e108)
  have f253 := gu_t e234 f230 (gneO pu209 ho_e108)
  have f254 := gu_t e234 fu232 (gneO ou232 ho_e108)
  have f255 := gu_t e234 tu232 (gneO pu232 ho_e108)
  have f256 := gu_a e234
  refine g_dup F dX4_init_100 rfl ?_
  refine g_bipush (v := 7) F dX4_init_101 rfl ?_
  refine g_ldcS (i := 59) (id := 16) F rfl dX4_init_103 ?_
  obtain ⟨bu257, vu257, zu257, ou257, pu257⟩ := hS 16 (by decide)
  refine g_old ou257 (fun fu257 => ?_)
  refine g_old pu257 (fun tu257 => ?_)
  refine g_aastN2 (t := 7) (i := 7) F (by decide) rfl gc_J6 gFit.rf f256 ho_e108 fu257 (rfl : (7 : Int32) = nI 7) (show 7 = 7 by omega) (by omega) (by decide) dX4_init_105 (fun h_258 e259 => ?_)
  have f260 := gu_t e259 f235 ne109
  have f261 := gu_t e259 f236 ne110
  have f262 := gu_t e259 f237 ne111
  have f263 := gu_t e259 f238 ne112
  have f264 := gu_t e259 f239 ne113
  have f265 := gu_t e259 f240 ne114
  have f266 := gu_t e259 f241 ne115
  have f267 := gu_t e259 f242 (gneO ou124 ho_e108)
  have f268 := gu_t e259 f243 (gneO pu124 ho_e108)
  have f269 := gu_t e259 f244 (gneO ou137 ho_e108)
  have f270 := gu_t e259 f245 (gneO pu137 ho_e108)
  have f271 := gu_t e259 f246 (gneO ou152 ho_e108)
  have f272 := gu_t e259 f247 (gneO pu152 ho_e108)
  have f273 := gu_t e259 f248 (gneO ou169 ho_e108)
  have f274 := gu_t e259 f249 (gneO pu169 ho_e108)
  have f275 := gu_t e259 f250 (gneO ou188 ho_e108)
  have f276 := gu_t e259 f251 (gneO pu188 ho_e108)
  have f277 := gu_t e259 f252 (gneO ou209 ho_e108)
  have f278 := gu_t e259 f253 (gneO pu209 ho_e108)
  have f279 := gu_t e259 f254 (gneO ou232 ho_e108)
  have f280 := gu_t e259 f255 (gneO pu232 ho_e108)
  have f281 := gu_t e259 fu257 (gneO ou257 ho_e108)
  have f282 := gu_t e259 tu257 (gneO pu257 ho_e108)
  have f283 := gu_a e259
  refine g_dup F dX4_init_106 rfl ?_
  refine g_bipush (v := 8) F dX4_init_107 rfl ?_
  refine g_ldcS (i := 60) (id := 17) F rfl dX4_init_109 ?_
  obtain ⟨bu284, vu284, zu284, ou284, pu284⟩ := hS 17 (by decide)
  refine g_old ou284 (fun fu284 => ?_)
  refine g_old pu284 (fun tu284 => ?_)
  refine g_aastN2 (t := 7) (i := 8) F (by decide) rfl gc_J6 gFit.rf f283 ho_e108 fu284 (rfl : (8 : Int32) = nI 8) (show 8 = 8 by omega) (by omega) (by decide) dX4_init_111 (fun h_285 e286 => ?_)
  have f287 := gu_t e286 f260 ne109
  have f288 := gu_t e286 f261 ne110
  have f289 := gu_t e286 f262 ne111
  have f290 := gu_t e286 f263 ne112
  have f291 := gu_t e286 f264 ne113
  have f292 := gu_t e286 f265 ne114
  have f293 := gu_t e286 f266 ne115
  have f294 := gu_t e286 f267 (gneO ou124 ho_e108)
  have f295 := gu_t e286 f268 (gneO pu124 ho_e108)
  have f296 := gu_t e286 f269 (gneO ou137 ho_e108)
  have f297 := gu_t e286 f270 (gneO pu137 ho_e108)
  have f298 := gu_t e286 f271 (gneO ou152 ho_e108)
  have f299 := gu_t e286 f272 (gneO pu152 ho_e108)
  have f300 := gu_t e286 f273 (gneO ou169 ho_e108)
  have f301 := gu_t e286 f274 (gneO pu169 ho_e108)
  have f302 := gu_t e286 f275 (gneO ou188 ho_e108)
  have f303 := gu_t e286 f276 (gneO pu188 ho_e108)
  have f304 := gu_t e286 f277 (gneO ou209 ho_e108)
  have f305 := gu_t e286 f278 (gneO pu209 ho_e108)
  have f306 := gu_t e286 f279 (gneO ou232 ho_e108)
  have f307 := gu_t e286 f280 (gneO pu232 ho_e108)
  have f308 := gu_t e286 f281 (gneO ou257 ho_e108)
  have f309 := gu_t e286 f282 (gneO pu257 ho_e108)
  have f310 := gu_t e286 fu284 (gneO ou284 ho_e108)
  have f311 := gu_t e286 tu284 (gneO pu284 ho_e108)
  have f312 := gu_a e286
  refine gp_X4_49_X4 (fs' := [.ref q1, .ref q11, .ref q24, .ref q40, .int 0, .ref q59, .int 0, .int 0, .int 0, .int 0, .ref q81, .int 0, .ref q106, .null, .int 0, .int 0, .int 0, .int 0, .int 0, .null, .int 0]) F hnm dX4_init_112 (Or.inr ⟨_, rfl⟩) f293 ho (nle rfl) rfl (fun h_313 e314 => ?_)
  have f315 := gu_t e314 f287 (Ne.symm ne4)
  have f316 := gu_t e314 f288 (Ne.symm ne15)
  have f317 := gu_t e314 f289 (Ne.symm ne29)
  have f318 := gu_t e314 f290 (Ne.symm ne46)
  have f319 := gu_t e314 f291 (Ne.symm ne66)
  have f320 := gu_t e314 f292 (Ne.symm ne89)
  have f321 := gu_t e314 f294 (gneO ou124 ho)
  have f322 := gu_t e314 f295 (gneO pu124 ho)
  have f323 := gu_t e314 f296 (gneO ou137 ho)
  have f324 := gu_t e314 f297 (gneO pu137 ho)
  have f325 := gu_t e314 f298 (gneO ou152 ho)
  have f326 := gu_t e314 f299 (gneO pu152 ho)
  have f327 := gu_t e314 f300 (gneO ou169 ho)
  have f328 := gu_t e314 f301 (gneO pu169 ho)
  have f329 := gu_t e314 f302 (gneO ou188 ho)
  have f330 := gu_t e314 f303 (gneO pu188 ho)
  have f331 := gu_t e314 f304 (gneO ou209 ho)
  have f332 := gu_t e314 f305 (gneO pu209 ho)
  have f333 := gu_t e314 f306 (gneO ou232 ho)
  have f334 := gu_t e314 f307 (gneO pu232 ho)
  have f335 := gu_t e314 f308 (gneO ou257 ho)
  have f336 := gu_t e314 f309 (gneO pu257 ho)
  have f337 := gu_t e314 f310 (gneO ou284 ho)
  have f338 := gu_t e314 f311 (gneO pu284 ho)
  have f339 := gu_t e314 f312 (Ne.symm ne115)
  have f340 := gu_a e314
  refine g_aload_n F dX4_init_115 0 rfl rfl ?_
  refine g_bipush (v := 60) F dX4_init_116 rfl ?_
  refine g_newa (t := 0) (atype := .int) (N := 60) (d := .inl (fun _ => 0)) (b := 1) (bs := 180) F q2323 (by decide) rfl (fun _ => rfl) dX4_init_118 (by decide) rfl (by decide) (fun q341 h_342 hn_e343 ho_e343 e343 => ?_)
  have ne344 : q1 ≠ q341 := gnew hn_e343 f315
  have ne345 : q11 ≠ q341 := gnew hn_e343 f316
  have ne346 : q24 ≠ q341 := gnew hn_e343 f317
  have ne347 : q40 ≠ q341 := gnew hn_e343 f318
  have ne348 : q59 ≠ q341 := gnew hn_e343 f319
  have ne349 : q81 ≠ q341 := gnew hn_e343 f320
  have ne350 : q106 ≠ q341 := gnew hn_e343 f339
  have ne351 : o ≠ q341 := gnew hn_e343 f340
  have f352 := gu_t e343 f315 (gnew hn_e343 f315)
  have f353 := gu_t e343 f316 (gnew hn_e343 f316)
  have f354 := gu_t e343 f317 (gnew hn_e343 f317)
  have f355 := gu_t e343 f318 (gnew hn_e343 f318)
  have f356 := gu_t e343 f319 (gnew hn_e343 f319)
  have f357 := gu_t e343 f320 (gnew hn_e343 f320)
  have f358 := gu_t e343 f321 (gnew hn_e343 f321)
  have f359 := gu_t e343 f322 (gnew hn_e343 f322)
  have f360 := gu_t e343 f323 (gnew hn_e343 f323)
  have f361 := gu_t e343 f324 (gnew hn_e343 f324)
  have f362 := gu_t e343 f325 (gnew hn_e343 f325)
  have f363 := gu_t e343 f326 (gnew hn_e343 f326)
  have f364 := gu_t e343 f327 (gnew hn_e343 f327)
  have f365 := gu_t e343 f328 (gnew hn_e343 f328)
  have f366 := gu_t e343 f329 (gnew hn_e343 f329)
  have f367 := gu_t e343 f330 (gnew hn_e343 f330)
  have f368 := gu_t e343 f331 (gnew hn_e343 f331)
  have f369 := gu_t e343 f332 (gnew hn_e343 f332)
  have f370 := gu_t e343 f333 (gnew hn_e343 f333)
  have f371 := gu_t e343 f334 (gnew hn_e343 f334)
  have f372 := gu_t e343 f335 (gnew hn_e343 f335)
  have f373 := gu_t e343 f336 (gnew hn_e343 f336)
  have f374 := gu_t e343 f337 (gnew hn_e343 f337)
  have f375 := gu_t e343 f338 (gnew hn_e343 f338)
  have f376 := gu_t e343 f339 (gnew hn_e343 f339)
  have f377 := gu_t e343 f340 (gnew hn_e343 f340)
  have f378 := gu_a e343
  refine gp_X4_53_X4 (fs' := [.ref q1, .ref q11, .ref q24, .ref q40, .int 0, .ref q59, .int 0, .int 0, .int 0, .int 0, .ref q81, .int 0, .ref q106, .ref q341, .int 0, .int 0, .int 0, .int 0, .int 0, .null, .int 0]) F hnm dX4_init_120 (Or.inr ⟨_, rfl⟩) f377 ho (nle rfl) rfl (fun h_379 e380 => ?_)
  have f381 := gu_t e380 f352 (Ne.symm ne4)
  have f382 := gu_t e380 f353 (Ne.symm ne15)
  have f383 := gu_t e380 f354 (Ne.symm ne29)
  have f384 := gu_t e380 f355 (Ne.symm ne46)
  have f385 := gu_t e380 f356 (Ne.symm ne66)
  have f386 := gu_t e380 f357 (Ne.symm ne89)
  have f387 := gu_t e380 f358 (gneO ou124 ho)
  have f388 := gu_t e380 f359 (gneO pu124 ho)
  have f389 := gu_t e380 f360 (gneO ou137 ho)
  have f390 := gu_t e380 f361 (gneO pu137 ho)
  have f391 := gu_t e380 f362 (gneO ou152 ho)
  have f392 := gu_t e380 f363 (gneO pu152 ho)
  have f393 := gu_t e380 f364 (gneO ou169 ho)
  have f394 := gu_t e380 f365 (gneO pu169 ho)
  have f395 := gu_t e380 f366 (gneO ou188 ho)
  have f396 := gu_t e380 f367 (gneO pu188 ho)
  have f397 := gu_t e380 f368 (gneO ou209 ho)
  have f398 := gu_t e380 f369 (gneO pu209 ho)
  have f399 := gu_t e380 f370 (gneO ou232 ho)
  have f400 := gu_t e380 f371 (gneO pu232 ho)
  have f401 := gu_t e380 f372 (gneO ou257 ho)
  have f402 := gu_t e380 f373 (gneO pu257 ho)
  have f403 := gu_t e380 f374 (gneO ou284 ho)
  have f404 := gu_t e380 f375 (gneO pu284 ho)
  have f405 := gu_t e380 f376 (Ne.symm ne115)
  have f406 := gu_t e380 f378 (Ne.symm ne351)
  have f407 := gu_a e380
  refine g_aload_n F dX4_init_123 0 rfl rfl ?_
  refine g_iconst (v := (-1)) F dX4_init_124 rfl ?_
  refine gp_X4_56_X4 (fs' := [.ref q1, .ref q11, .ref q24, .ref q40, .int 0, .ref q59, .int 0, .int 0, .int 0, .int 0, .ref q81, .int 0, .ref q106, .ref q341, .int 0, .int 0, .int 0, .int (-1), .int 0, .null, .int 0]) F dX4_init_125 f407 ho (nle rfl) rfl (fun h_408 e409 => ?_)
  have f410 := gu_t e409 f381 (Ne.symm ne4)
  have f411 := gu_t e409 f382 (Ne.symm ne15)
  have f412 := gu_t e409 f383 (Ne.symm ne29)
  have f413 := gu_t e409 f384 (Ne.symm ne46)
  have f414 := gu_t e409 f385 (Ne.symm ne66)
  have f415 := gu_t e409 f386 (Ne.symm ne89)
  have f416 := gu_t e409 f387 (gneO ou124 ho)
  have f417 := gu_t e409 f388 (gneO pu124 ho)
  have f418 := gu_t e409 f389 (gneO ou137 ho)
  have f419 := gu_t e409 f390 (gneO pu137 ho)
  have f420 := gu_t e409 f391 (gneO ou152 ho)
  have f421 := gu_t e409 f392 (gneO pu152 ho)
  have f422 := gu_t e409 f393 (gneO ou169 ho)
  have f423 := gu_t e409 f394 (gneO pu169 ho)
  have f424 := gu_t e409 f395 (gneO ou188 ho)
  have f425 := gu_t e409 f396 (gneO pu188 ho)
  have f426 := gu_t e409 f397 (gneO ou209 ho)
  have f427 := gu_t e409 f398 (gneO pu209 ho)
  have f428 := gu_t e409 f399 (gneO ou232 ho)
  have f429 := gu_t e409 f400 (gneO pu232 ho)
  have f430 := gu_t e409 f401 (gneO ou257 ho)
  have f431 := gu_t e409 f402 (gneO pu257 ho)
  have f432 := gu_t e409 f403 (gneO ou284 ho)
  have f433 := gu_t e409 f404 (gneO pu284 ho)
  have f434 := gu_t e409 f405 (Ne.symm ne115)
  have f435 := gu_t e409 f406 (Ne.symm ne351)
  have f436 := gu_a e409
  refine g_aload_n F dX4_init_128 0 rfl rfl ?_
  refine g_iconst (v := (-1)) F dX4_init_129 rfl ?_
  refine gp_X4_60_X4 (fs' := [.ref q1, .ref q11, .ref q24, .ref q40, .int 0, .ref q59, .int 0, .int 0, .int 0, .int 0, .ref q81, .int 0, .ref q106, .ref q341, .int 0, .int 0, .int 0, .int (-1), .int (-1), .null, .int 0]) F dX4_init_130 f436 ho (nle rfl) rfl (fun h_437 e438 => ?_)
  have f439 := gu_t e438 f410 (Ne.symm ne4)
  have f440 := gu_t e438 f411 (Ne.symm ne15)
  have f441 := gu_t e438 f412 (Ne.symm ne29)
  have f442 := gu_t e438 f413 (Ne.symm ne46)
  have f443 := gu_t e438 f414 (Ne.symm ne66)
  have f444 := gu_t e438 f415 (Ne.symm ne89)
  have f445 := gu_t e438 f416 (gneO ou124 ho)
  have f446 := gu_t e438 f417 (gneO pu124 ho)
  have f447 := gu_t e438 f418 (gneO ou137 ho)
  have f448 := gu_t e438 f419 (gneO pu137 ho)
  have f449 := gu_t e438 f420 (gneO ou152 ho)
  have f450 := gu_t e438 f421 (gneO pu152 ho)
  have f451 := gu_t e438 f422 (gneO ou169 ho)
  have f452 := gu_t e438 f423 (gneO pu169 ho)
  have f453 := gu_t e438 f424 (gneO ou188 ho)
  have f454 := gu_t e438 f425 (gneO pu188 ho)
  have f455 := gu_t e438 f426 (gneO ou209 ho)
  have f456 := gu_t e438 f427 (gneO pu209 ho)
  have f457 := gu_t e438 f428 (gneO ou232 ho)
  have f458 := gu_t e438 f429 (gneO pu232 ho)
  have f459 := gu_t e438 f430 (gneO ou257 ho)
  have f460 := gu_t e438 f431 (gneO pu257 ho)
  have f461 := gu_t e438 f432 (gneO ou284 ho)
  have f462 := gu_t e438 f433 (gneO pu284 ho)
  have f463 := gu_t e438 f434 (Ne.symm ne115)
  have f464 := gu_t e438 f435 (Ne.symm ne351)
  have f465 := gu_a e438
  refine g_aload_n F dX4_init_133 0 rfl rfl ?_
  refine g_sipush (v := 180) F dX4_init_134 rfl ?_
  refine g_newa (t := 0) (atype := .int) (N := 180) (d := .inl (fun _ => 0)) (b := 0) (bs := 0) F q2323 (by decide) rfl (fun _ => rfl) dX4_init_137 (by decide) rfl (by decide) (fun q466 h_467 hn_e468 ho_e468 e468 => ?_)
  have ne469 : q1 ≠ q466 := gnew hn_e468 f439
  have ne470 : q11 ≠ q466 := gnew hn_e468 f440
  have ne471 : q24 ≠ q466 := gnew hn_e468 f441
  have ne472 : q40 ≠ q466 := gnew hn_e468 f442
  have ne473 : q59 ≠ q466 := gnew hn_e468 f443
  have ne474 : q81 ≠ q466 := gnew hn_e468 f444
  have ne475 : q106 ≠ q466 := gnew hn_e468 f463
  have ne476 : q341 ≠ q466 := gnew hn_e468 f464
  have ne477 : o ≠ q466 := gnew hn_e468 f465
  have f478 := gu_t e468 f439 (gnew hn_e468 f439)
  have f479 := gu_t e468 f440 (gnew hn_e468 f440)
  have f480 := gu_t e468 f441 (gnew hn_e468 f441)
  have f481 := gu_t e468 f442 (gnew hn_e468 f442)
  have f482 := gu_t e468 f443 (gnew hn_e468 f443)
  have f483 := gu_t e468 f444 (gnew hn_e468 f444)
  have f484 := gu_t e468 f445 (gnew hn_e468 f445)
  have f485 := gu_t e468 f446 (gnew hn_e468 f446)
  have f486 := gu_t e468 f447 (gnew hn_e468 f447)
  have f487 := gu_t e468 f448 (gnew hn_e468 f448)
  have f488 := gu_t e468 f449 (gnew hn_e468 f449)
  have f489 := gu_t e468 f450 (gnew hn_e468 f450)
  have f490 := gu_t e468 f451 (gnew hn_e468 f451)
  have f491 := gu_t e468 f452 (gnew hn_e468 f452)
  have f492 := gu_t e468 f453 (gnew hn_e468 f453)
  have f493 := gu_t e468 f454 (gnew hn_e468 f454)
  have f494 := gu_t e468 f455 (gnew hn_e468 f455)
  have f495 := gu_t e468 f456 (gnew hn_e468 f456)
  have f496 := gu_t e468 f457 (gnew hn_e468 f457)
  have f497 := gu_t e468 f458 (gnew hn_e468 f458)
  have f498 := gu_t e468 f459 (gnew hn_e468 f459)
  have f499 := gu_t e468 f460 (gnew hn_e468 f460)
  have f500 := gu_t e468 f461 (gnew hn_e468 f461)
  have f501 := gu_t e468 f462 (gnew hn_e468 f462)
  have f502 := gu_t e468 f463 (gnew hn_e468 f463)
  have f503 := gu_t e468 f464 (gnew hn_e468 f464)
  have f504 := gu_t e468 f465 (gnew hn_e468 f465)
  have f505 := gu_a e468
  refine gp_X4_63_X4 (fs' := [.ref q1, .ref q11, .ref q24, .ref q40, .int 0, .ref q59, .int 0, .int 0, .int 0, .int 0, .ref q81, .int 0, .ref q106, .ref q341, .int 0, .int 0, .int 0, .int (-1), .int (-1), .ref q466, .int 0]) F hnm dX4_init_139 (Or.inr ⟨_, rfl⟩) f504 ho (nle rfl) rfl (fun h_506 e507 => ?_)
  have f508 := gu_t e507 f478 (Ne.symm ne4)
  have f509 := gu_t e507 f479 (Ne.symm ne15)
  have f510 := gu_t e507 f480 (Ne.symm ne29)
  have f511 := gu_t e507 f481 (Ne.symm ne46)
  have f512 := gu_t e507 f482 (Ne.symm ne66)
  have f513 := gu_t e507 f483 (Ne.symm ne89)
  have f514 := gu_t e507 f484 (gneO ou124 ho)
  have f515 := gu_t e507 f485 (gneO pu124 ho)
  have f516 := gu_t e507 f486 (gneO ou137 ho)
  have f517 := gu_t e507 f487 (gneO pu137 ho)
  have f518 := gu_t e507 f488 (gneO ou152 ho)
  have f519 := gu_t e507 f489 (gneO pu152 ho)
  have f520 := gu_t e507 f490 (gneO ou169 ho)
  have f521 := gu_t e507 f491 (gneO pu169 ho)
  have f522 := gu_t e507 f492 (gneO ou188 ho)
  have f523 := gu_t e507 f493 (gneO pu188 ho)
  have f524 := gu_t e507 f494 (gneO ou209 ho)
  have f525 := gu_t e507 f495 (gneO pu209 ho)
  have f526 := gu_t e507 f496 (gneO ou232 ho)
  have f527 := gu_t e507 f497 (gneO pu232 ho)
  have f528 := gu_t e507 f498 (gneO ou257 ho)
  have f529 := gu_t e507 f499 (gneO pu257 ho)
  have f530 := gu_t e507 f500 (gneO ou284 ho)
  have f531 := gu_t e507 f501 (gneO pu284 ho)
  have f532 := gu_t e507 f502 (Ne.symm ne115)
  have f533 := gu_t e507 f503 (Ne.symm ne351)
  have f534 := gu_t e507 f505 (Ne.symm ne477)
  have f535 := gu_a e507
  have hW : (va_up (va_up (va_up (va_up (va_up (va_up (va_up (va_up (va_up (fun _ => none) 0 (some (gAd K 9))) 1 (some (gAd K 10))) 2 (some (gAd K 11))) 3 (some (gAd K 12))) 4 (some (gAd K 13))) 5 (some (gAd K 14))) 6 (some (gAd K 15))) 7 (some (gAd K 16))) 8 (some (gAd K 17))) = mWd K := by
    funext i
    rcases Nat.lt_or_ge i 9 with q | q
    · have hio : i = 0 ∨ i = 1 ∨ i = 2 ∨ i = 3 ∨ i = 4 ∨ i = 5 ∨ i = 6 ∨ i = 7 ∨ i = 8 := by omega
      rcases hio with rfl | rfl | rfl | rfl | rfl | rfl | rfl | rfl | rfl <;> rfl
    · obtain ⟨j, rfl⟩ : ∃ j, i = j + 9 := ⟨i - 9, by omega⟩
      have hne : ∀ k, k < 9 → j + 9 ≠ k := fun k hk => by omega
      simp only [va_up, if_neg (hne 0 (by decide)), if_neg (hne 1 (by decide)), if_neg (hne 2 (by decide)), if_neg (hne 3 (by decide)), if_neg (hne 4 (by decide)), if_neg (hne 5 (by decide)), if_neg (hne 6 (by decide)), if_neg (hne 7 (by decide)), if_neg (hne 8 (by decide))]; rfl
  have f536 := f532
  rw [hW] at f536
  have hM : h_506 = mO K h o (mLL q1 q11 q24 q40 q59 q81 q106 q341 q466) iv00 (fun _ _ => 0) := mO_mk f535 f508 f509 f510 f511 f512 f513 f536 f533 f534 (fun a n_o n_0 n_1 n_2 n_3 n_5 n_10 n_12 n_13 n_19 => by rw [e507, gu_n (show a ≠ o from n_o), e468, gu_n (show a ≠ q466 from n_19), e438, gu_n (show a ≠ o from n_o), e409, gu_n (show a ≠ o from n_o), e380, gu_n (show a ≠ o from n_o), e343, gu_n (show a ≠ q341 from n_13), e314, gu_n (show a ≠ o from n_o), e286, gu_n (show a ≠ q106 from n_12), e259, gu_n (show a ≠ q106 from n_12), e234, gu_n (show a ≠ q106 from n_12), e211, gu_n (show a ≠ q106 from n_12), e190, gu_n (show a ≠ q106 from n_12), e171, gu_n (show a ≠ q106 from n_12), e154, gu_n (show a ≠ q106 from n_12), e139, gu_n (show a ≠ q106 from n_12), e126, gu_n (show a ≠ q106 from n_12), e108, gu_n (show a ≠ q106 from n_12), e98, gu_n (show a ≠ o from n_o), e83, gu_n (show a ≠ q81 from n_10), e74, gu_n (show a ≠ o from n_o), e61, gu_n (show a ≠ q59 from n_5), e53, gu_n (show a ≠ o from n_o), e42, gu_n (show a ≠ q40 from n_3), e35, gu_n (show a ≠ o from n_o), e26, gu_n (show a ≠ q24 from n_2), e20, gu_n (show a ≠ o from n_o), e13, gu_n (show a ≠ q11 from n_1), e8, gu_n (show a ≠ o from n_o), e3, gu_n (show a ≠ q1 from n_0)])
  have hnd : [q1, q11, q24, q40, q59, q81, q106, q341, q466].Nodup := by
    simp only [List.nodup_cons, List.mem_cons, List.not_mem_nil, or_false, not_or, List.nodup_nil, and_true, not_false_eq_true]
    exact ⟨⟨ne14, ne27, ne43, ne62, ne84, ne109, ne344, ne469⟩, ⟨ne28, ne44, ne63, ne85, ne110, ne345, ne470⟩, ⟨ne45, ne64, ne86, ne111, ne346, ne471⟩, ⟨ne65, ne87, ne112, ne347, ne472⟩, ⟨ne88, ne113, ne348, ne473⟩, ⟨ne114, ne349, ne474⟩, ⟨ne350, ne475⟩, ne476⟩
  have hN : mN K o (mLL q1 q11 q24 q40 q59 q81 q106 q341 q466) := mN_mk ho ho_e3 ho_e13 ho_e26 ho_e42 ho_e61 ho_e83 ho_e108 ho_e343 ho_e468 (Ne.symm ne4) (Ne.symm ne15) (Ne.symm ne29) (Ne.symm ne46) (Ne.symm ne66) (Ne.symm ne89) (Ne.symm ne115) (Ne.symm ne351) (Ne.symm ne477) hnd
  refine g_eqh (h' := mO K h o (mLL q1 q11 q24 q40 q59 q81 q106 q341 q466) iv00 (fun _ _ => 0)) hM ?_
  refine g_aload_n F dX4_init_142 0 rfl rfl ?_
  have t537 := ct_X4_empties (h := h) (L := (mLL q1 q11 q24 q40 q59 q81 q106 q341 q466)) (iv := iv00) (av := fun _ _ => 0) hN (fun _ _ => rfl)
  refine g_callV F dX4_init_143 mi_X4_empties q2255 q2257 qs24 gc_X4 mO_o t537 rfl rfl (nle rfl) (nle rfl) (nle rfl) (g_purv ?_) g_purvX
  exact g_vret F dX4_init_146 (⟨rfl, _, hN, rfl⟩)
