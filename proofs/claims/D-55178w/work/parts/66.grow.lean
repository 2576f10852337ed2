/-! ===== A THING ADDED ===== -/
/-- the addresses with thing n of row r at y, the row's array at d -/
def tA (A : Nat → Nat → Nat) (r n y d : Nat) : Nat → Nat → Nat := fun a b => if a = 3 + r ∧ b = n then y else if a = 2 ∧ b = r then d else A a b
theorem tA_0 {A : Nat → Nat → Nat} {r n y d a : Nat} (h1 : a ≠ 3 + r) (h2 : a ≠ 2) : tA A r n y d a = A a := by
  funext b
  simp [tA, h1, h2]
theorem tA_3 {A : Nat → Nat → Nat} {r n y d : Nat} : tA A r n y d (3 + r) = lsP (A (3 + r)) n y := by
  funext b
  unfold tA lsP
  by_cases q : b = n
  · rw [if_pos ⟨rfl, q⟩, if_pos q]
  · rw [if_neg (fun z => q z.2), if_neg (fun z => by omega), if_neg q]
theorem tA_2 {A : Nat → Nat → Nat} {r n y d j : Nat} : tA A r n y d 2 j = if j = r then d else A 2 j := by
  unfold tA
  rw [if_neg (fun z => by omega)]
  by_cases q : j = r
  · rw [if_pos ⟨rfl, q⟩, if_pos q]
  · rw [if_neg (fun z => q z.2), if_neg q]
theorem th_grow {K : gK} {h0 h h' : AH} {A : Nat → Nat → Nat} {o : Nat → Nat} {f : Nat → Int32} {nb nc nh nq r y : Nat} {l' : Nat → Nat} (hinj : ∀ i j, i < 8 → j < 8 → gT K i = gT K j → i = j) (hKA : gKA K) (T : th K (gNw K h0) h A o f nb nc nh nq) (hr : r < 4) (G : lsG K h0 h (A 1 r) (A 2 r) (tC nb nc nh nq r + 1) l' h') : ∃ d', h' (A 7 1) = some (.inr (2, vT f nb A)) ∧ (∀ j, j < 4 → h' (A 0 j) = some (.inr (3, [.ref (A 1 j), .int (tMo j)]))) ∧ (∃ MD : Nat → Int32, ∀ j, j < 4 → j ≠ r → lsO K (gNw K h0) h' (A 1 j) (A 2 j) (tC nb nc nh nq j) (tLi A o j) (MD j)) ∧ (∃ md : Int32, lsO K (gNw K h0) h' (A 1 r) d' (tC nb nc nh nq r + 1) l' md) ∧ tDo K (gNw K h0) h' (A 7 0) f ∧ tLs h' 9 nb (A 3) (vB f nc) ∧ tLs h' 10 nc (A 4) (vC f) ∧ tLs h' 11 nh (A 5) (vH f) ∧ tLs h' 12 nq (A 6) (vQ f) ∧ ∀ j, j < 4 → j ≠ r → 0 < tC nb nc nh nq j → A 2 j ≠ d' := by
  obtain ⟨⟨t1, t2⟩, t3, ⟨MD, t4⟩, ⟨dz, z1, z2, z3, z4⟩, ⟨t6, t7⟩, ⟨t8, t9⟩, ⟨t10, t11⟩, t12, t13, t14⟩ := T
  have hl := t4 r hr
  have G2 := G
  obtain ⟨d', md', g1, g2, g3, g4⟩ := G2
  refine ⟨d', lsG.ob G hl t1 (by decide), fun j hj => lsG.ob G hl (t3 j hj) (by decide), ⟨MD, fun j hj hne => lsG.ls G hl (t4 j hj) (t13 j r hj hr hne).1 (fun p1 p2 => (t13 j r hj hr hne).2 p2 p1)⟩, ⟨md', g1⟩, ⟨dz, lsG.ar hinj G hl z1 (by decide), z2, z3, z4⟩, tLs.G G hl (by decide) t6, tLs.G G hl (by decide) t8, tLs.G G hl (by decide) t10, tLs.G G hl (by decide) t12, fun j hj hne h0j => ?_⟩
  have hd := (lsO.ar (t4 j hj) h0j).2.2
  rintro rfl
  rcases g3 with q | q
  · rcases Nat.eq_zero_or_pos (tC nb nc nh nq r) with w | w
    · rcases hl.2.2.2 with ⟨w1, w2⟩ | ⟨w1, -⟩
      · have k1 := (lsO.ar g1 (Nat.succ_pos _)).1
        rw [q, w2] at k1
        unfold gKA at hKA
        rw [hKA] at k1
        cases k1
      · omega
    · exact (t13 j r hj hr hne).2 h0j w q
  · rw [q] at hd; cases hd
theorem load0 {f : Nat → Int32} {nb nc nq : Nat} (hb : nb ≤ 8) (h : mL f nb nc nq) : mLoad f nc (nI nb) = 0 ∧ mCnt f nc (nI nb) = 0 := by
  have k : ∀ k, k < nc → ¬ f (44 + 2 * k) = nI nb := fun k hk z => by
    rcases h.1 k hk with q | ⟨i, hi, q⟩
    · exact nI_m1 (k := nb) (by omega) (q.symm.trans z)
    · have := (nI_eq (a := i) (b := nb) (by omega) (by omega)).mp (q.symm.trans z); omega
  constructor
  · unfold mLoad
    rw [mSum_c (g := fun _ => 0) (fun j hj => if_neg (k j hj)), mSum_0]
  · unfold mCnt
    rw [mSum_c (g := fun _ => 0) (fun j hj => if_neg (k j hj)), mSum_0]
theorem mSum_l {g : Nat → Int32} {n : Nat} (h : g n = 0) : mSum g (n + 1) = mSum g n := by rw [mSum_s, h, Int32.add_zero]
theorem th_addB {K : gK} {h0 h h' : AH} {A : Nat → Nat → Nat} {o : Nat → Nat} {f f' : Nat → Int32} {nb nc nh nq y : Nat} (hinj : ∀ i j, i < 8 → j < 8 → gT K i = gT K j → i = j) (hKA : gKA K) (T : th K (gNw K h0) h A o f nb nc nh nq) (G : lsG K h0 h (A 1 0) (A 2 0) (nb + 1) (lsP (A 3) nb y) h') (hy : h' y = some (.inr (9, vB f' nc nb))) (hN : gNw K h0 y) (eT : vT f' (nb + 1) A = vT f nb A) (eD : ∀ j, 79 ≤ j → j < 83 → f' j = f j) (eB : ∀ i, i < nb → vB f nc i = vB f' nc i) (eC : ∀ i, i < nc → vC f i = vC f' i) (eH : ∀ i, i < nh → vH f i = vH f' i) (eQ : ∀ i, i < nq → vQ f i = vQ f' i) : ∃ A' : Nat → Nat → Nat, A' 7 1 = A 7 1 ∧ th K (gNw K h0) h' A' o f' (nb + 1) nc nh nq := by
  obtain ⟨d', u1, u2, ⟨MD, u3⟩, ⟨md, u4⟩, u5, u6, u7, u8, u9, u10⟩ := th_grow (r := 0) (y := y) (nb := nb) (nc := nc) (nh := nh) (nq := nq) hinj hKA T (by decide) G
  have b7 : tA A 0 nb y d' 7 = A 7 := tA_0 (by decide) (by decide)
  have b0 : tA A 0 nb y d' 0 = A 0 := tA_0 (by decide) (by decide)
  have b1 : tA A 0 nb y d' 1 = A 1 := tA_0 (by decide) (by decide)
  have b6 : tA A 0 nb y d' 6 = A 6 := tA_0 (by decide) (by decide)
  have b3 : tA A 0 nb y d' 3 = lsP (A 3) nb y := tA_3 (r := 0)
  have b4 : tA A 0 nb y d' 4 = A 4 := tA_0 (by decide) (by decide)
  have b5 : tA A 0 nb y d' 5 = A 5 := tA_0 (by decide) (by decide)
  have b2 : ∀ j, tA A 0 nb y d' 2 j = if j = 0 then d' else A 2 j := fun j => tA_2
  obtain ⟨⟨-, t2⟩, -, -, -, ⟨-, t7⟩, ⟨-, t9⟩, ⟨-, t11⟩, -, t13, t14⟩ := T
  refine ⟨tA A 0 nb y d', by rw [b7], ⟨⟨?_, by rw [b7]; exact t2⟩, fun j hj => by rw [b0, b1]; exact u2 j hj, ⟨fun j => if j = 0 then md else MD j, ?_⟩, by rw [b7]; exact u5.c eD, ?_, ?_, ?_, ?_, ?_, t14⟩⟩
  · have e : vT f' (nb + 1) (tA A 0 nb y d') = vT f' (nb + 1) A := by unfold vT; rw [b0, b7]
    rw [b7, e, eT]; exact u1
  · exact four (by show lsO K _ h' (tA A 0 nb y d' 1 0) (tA A 0 nb y d' 2 0) (nb + 1) (tA A 0 nb y d' 3) md; rw [b1, b2, if_pos rfl, b3]; exact u4) (by show lsO K _ h' (tA A 0 nb y d' 1 1) (tA A 0 nb y d' 2 1) nc (tA A 0 nb y d' 4) (MD 1); rw [b1, b2, if_neg (by decide), b4]; exact u3 1 (by decide) (by decide)) (by show lsO K _ h' (tA A 0 nb y d' 1 2) (tA A 0 nb y d' 2 2) nh (tA A 0 nb y d' 5) (MD 2); rw [b1, b2, if_neg (by decide), b5]; exact u3 2 (by decide) (by decide)) (by show lsO K _ h' (tA A 0 nb y d' 1 3) (tA A 0 nb y d' 2 3) nq (fun i => tA A 0 nb y d' 6 (o i)) (MD 3); rw [b1, b2, if_neg (by decide), b6]; exact u3 3 (by decide) (by decide))
  · rw [b3]
    exact ⟨tLs.add (u6.c eB) hy, nwP t7 hN⟩
  · rw [b4]
    exact ⟨u7.c eC, t9⟩
  · rw [b5]
    exact ⟨u8.c eH, t11⟩
  · rw [b6]; exact u9.c eQ
  · intro i j hi hj hne
    rw [b1, b2, b2]
    refine ⟨(t13 i j hi hj hne).1, fun p1 p2 => ?_⟩
    have tc : ∀ k, k < 4 → k ≠ 0 → 0 < tC (nb + 1) nc nh nq k → 0 < tC nb nc nh nq k := four (fun z _ => absurd rfl z) (fun _ z => z) (fun _ z => z) (fun _ z => z)
    by_cases q : i = 0
    · rw [if_pos q, if_neg (fun z => hne (q.trans z.symm))]
      exact Ne.symm (u10 j hj (fun z => hne (q.trans z.symm)) (tc j hj (fun z => hne (q.trans z.symm)) p2))
    · by_cases q2 : j = 0
      · rw [if_neg q, if_pos q2]; exact u10 i hi q (tc i hi q p1)
      · rw [if_neg q, if_neg q2]; exact (t13 i j hi hj hne).2 (tc i hi q p1) (tc j hj q2 p2)
theorem th_addC {K : gK} {h0 h h' : AH} {A : Nat → Nat → Nat} {o : Nat → Nat} {f f' : Nat → Int32} {nb nc nh nq y : Nat} (hinj : ∀ i j, i < 8 → j < 8 → gT K i = gT K j → i = j) (hKA : gKA K) (T : th K (gNw K h0) h A o f nb nc nh nq) (G : lsG K h0 h (A 1 1) (A 2 1) (nc + 1) (lsP (A 4) nc y) h') (hy : h' y = some (.inr (10, vC f' nc))) (hN : gNw K h0 y) (eT : vT f' nb A = vT f nb A) (eD : ∀ j, 79 ≤ j → j < 83 → f' j = f j) (eB : ∀ i, i < nb → vB f nc i = vB f' (nc + 1) i) (eC : ∀ i, i < nc → vC f i = vC f' i) (eH : ∀ i, i < nh → vH f i = vH f' i) (eQ : ∀ i, i < nq → vQ f i = vQ f' i) : ∃ A' : Nat → Nat → Nat, A' 7 1 = A 7 1 ∧ th K (gNw K h0) h' A' o f' nb (nc + 1) nh nq := by
  obtain ⟨d', u1, u2, ⟨MD, u3⟩, ⟨md, u4⟩, u5, u6, u7, u8, u9, u10⟩ := th_grow (r := 1) (y := y) (nb := nb) (nc := nc) (nh := nh) (nq := nq) hinj hKA T (by decide) G
  have b7 : tA A 1 nc y d' 7 = A 7 := tA_0 (by decide) (by decide)
  have b0 : tA A 1 nc y d' 0 = A 0 := tA_0 (by decide) (by decide)
  have b1 : tA A 1 nc y d' 1 = A 1 := tA_0 (by decide) (by decide)
  have b6 : tA A 1 nc y d' 6 = A 6 := tA_0 (by decide) (by decide)
  have b3 : tA A 1 nc y d' 3 = A 3 := tA_0 (by decide) (by decide)
  have b4 : tA A 1 nc y d' 4 = lsP (A 4) nc y := tA_3 (r := 1)
  have b5 : tA A 1 nc y d' 5 = A 5 := tA_0 (by decide) (by decide)
  have b2 : ∀ j, tA A 1 nc y d' 2 j = if j = 1 then d' else A 2 j := fun j => tA_2
  obtain ⟨⟨-, t2⟩, -, -, -, ⟨-, t7⟩, ⟨-, t9⟩, ⟨-, t11⟩, -, t13, t14⟩ := T
  refine ⟨tA A 1 nc y d', by rw [b7], ⟨⟨?_, by rw [b7]; exact t2⟩, fun j hj => by rw [b0, b1]; exact u2 j hj, ⟨fun j => if j = 1 then md else MD j, ?_⟩, by rw [b7]; exact u5.c eD, ?_, ?_, ?_, ?_, ?_, t14⟩⟩
  · have e : vT f' nb (tA A 1 nc y d') = vT f' nb A := by unfold vT; rw [b0, b7]
    rw [b7, e, eT]; exact u1
  · exact four (by show lsO K _ h' (tA A 1 nc y d' 1 0) (tA A 1 nc y d' 2 0) nb (tA A 1 nc y d' 3) (MD 0); rw [b1, b2, if_neg (by decide), b3]; exact u3 0 (by decide) (by decide)) (by show lsO K _ h' (tA A 1 nc y d' 1 1) (tA A 1 nc y d' 2 1) (nc + 1) (tA A 1 nc y d' 4) md; rw [b1, b2, if_pos rfl, b4]; exact u4) (by show lsO K _ h' (tA A 1 nc y d' 1 2) (tA A 1 nc y d' 2 2) nh (tA A 1 nc y d' 5) (MD 2); rw [b1, b2, if_neg (by decide), b5]; exact u3 2 (by decide) (by decide)) (by show lsO K _ h' (tA A 1 nc y d' 1 3) (tA A 1 nc y d' 2 3) nq (fun i => tA A 1 nc y d' 6 (o i)) (MD 3); rw [b1, b2, if_neg (by decide), b6]; exact u3 3 (by decide) (by decide))
  · rw [b3]
    exact ⟨u6.c eB, t7⟩
  · rw [b4]
    exact ⟨tLs.add (u7.c eC) hy, nwP t9 hN⟩
  · rw [b5]
    exact ⟨u8.c eH, t11⟩
  · rw [b6]; exact u9.c eQ
  · intro i j hi hj hne
    rw [b1, b2, b2]
    refine ⟨(t13 i j hi hj hne).1, fun p1 p2 => ?_⟩
    have tc : ∀ k, k < 4 → k ≠ 1 → 0 < tC nb (nc + 1) nh nq k → 0 < tC nb nc nh nq k := four (fun _ z => z) (fun z _ => absurd rfl z) (fun _ z => z) (fun _ z => z)
    by_cases q : i = 1
    · rw [if_pos q, if_neg (fun z => hne (q.trans z.symm))]
      exact Ne.symm (u10 j hj (fun z => hne (q.trans z.symm)) (tc j hj (fun z => hne (q.trans z.symm)) p2))
    · by_cases q2 : j = 1
      · rw [if_neg q, if_pos q2]; exact u10 i hi q (tc i hi q p1)
      · rw [if_neg q, if_neg q2]; exact (t13 i j hi hj hne).2 (tc i hi q p1) (tc j hj q2 p2)
theorem th_addH {K : gK} {h0 h h' : AH} {A : Nat → Nat → Nat} {o : Nat → Nat} {f f' : Nat → Int32} {nb nc nh nq y : Nat} (hinj : ∀ i j, i < 8 → j < 8 → gT K i = gT K j → i = j) (hKA : gKA K) (T : th K (gNw K h0) h A o f nb nc nh nq) (G : lsG K h0 h (A 1 2) (A 2 2) (nh + 1) (lsP (A 5) nh y) h') (hy : h' y = some (.inr (11, vH f' nh))) (hN : gNw K h0 y) (eT : vT f' nb A = vT f nb A) (eD : ∀ j, 79 ≤ j → j < 83 → f' j = f j) (eB : ∀ i, i < nb → vB f nc i = vB f' nc i) (eC : ∀ i, i < nc → vC f i = vC f' i) (eH : ∀ i, i < nh → vH f i = vH f' i) (eQ : ∀ i, i < nq → vQ f i = vQ f' i) : ∃ A' : Nat → Nat → Nat, A' 7 1 = A 7 1 ∧ th K (gNw K h0) h' A' o f' nb nc (nh + 1) nq := by
  obtain ⟨d', u1, u2, ⟨MD, u3⟩, ⟨md, u4⟩, u5, u6, u7, u8, u9, u10⟩ := th_grow (r := 2) (y := y) (nb := nb) (nc := nc) (nh := nh) (nq := nq) hinj hKA T (by decide) G
  have b7 : tA A 2 nh y d' 7 = A 7 := tA_0 (by decide) (by decide)
  have b0 : tA A 2 nh y d' 0 = A 0 := tA_0 (by decide) (by decide)
  have b1 : tA A 2 nh y d' 1 = A 1 := tA_0 (by decide) (by decide)
  have b6 : tA A 2 nh y d' 6 = A 6 := tA_0 (by decide) (by decide)
  have b3 : tA A 2 nh y d' 3 = A 3 := tA_0 (by decide) (by decide)
  have b4 : tA A 2 nh y d' 4 = A 4 := tA_0 (by decide) (by decide)
  have b5 : tA A 2 nh y d' 5 = lsP (A 5) nh y := tA_3 (r := 2)
  have b2 : ∀ j, tA A 2 nh y d' 2 j = if j = 2 then d' else A 2 j := fun j => tA_2
  obtain ⟨⟨-, t2⟩, -, -, -, ⟨-, t7⟩, ⟨-, t9⟩, ⟨-, t11⟩, -, t13, t14⟩ := T
  refine ⟨tA A 2 nh y d', by rw [b7], ⟨⟨?_, by rw [b7]; exact t2⟩, fun j hj => by rw [b0, b1]; exact u2 j hj, ⟨fun j => if j = 2 then md else MD j, ?_⟩, by rw [b7]; exact u5.c eD, ?_, ?_, ?_, ?_, ?_, t14⟩⟩
  · have e : vT f' nb (tA A 2 nh y d') = vT f' nb A := by unfold vT; rw [b0, b7]
    rw [b7, e, eT]; exact u1
  · exact four (by show lsO K _ h' (tA A 2 nh y d' 1 0) (tA A 2 nh y d' 2 0) nb (tA A 2 nh y d' 3) (MD 0); rw [b1, b2, if_neg (by decide), b3]; exact u3 0 (by decide) (by decide)) (by show lsO K _ h' (tA A 2 nh y d' 1 1) (tA A 2 nh y d' 2 1) nc (tA A 2 nh y d' 4) (MD 1); rw [b1, b2, if_neg (by decide), b4]; exact u3 1 (by decide) (by decide)) (by show lsO K _ h' (tA A 2 nh y d' 1 2) (tA A 2 nh y d' 2 2) (nh + 1) (tA A 2 nh y d' 5) md; rw [b1, b2, if_pos rfl, b5]; exact u4) (by show lsO K _ h' (tA A 2 nh y d' 1 3) (tA A 2 nh y d' 2 3) nq (fun i => tA A 2 nh y d' 6 (o i)) (MD 3); rw [b1, b2, if_neg (by decide), b6]; exact u3 3 (by decide) (by decide))
  · rw [b3]
    exact ⟨u6.c eB, t7⟩
  · rw [b4]
    exact ⟨u7.c eC, t9⟩
  · rw [b5]
    exact ⟨tLs.add (u8.c eH) hy, nwP t11 hN⟩
  · rw [b6]; exact u9.c eQ
  · intro i j hi hj hne
    rw [b1, b2, b2]
    refine ⟨(t13 i j hi hj hne).1, fun p1 p2 => ?_⟩
    have tc : ∀ k, k < 4 → k ≠ 2 → 0 < tC nb nc (nh + 1) nq k → 0 < tC nb nc nh nq k := four (fun _ z => z) (fun _ z => z) (fun z _ => absurd rfl z) (fun _ z => z)
    by_cases q : i = 2
    · rw [if_pos q, if_neg (fun z => hne (q.trans z.symm))]
      exact Ne.symm (u10 j hj (fun z => hne (q.trans z.symm)) (tc j hj (fun z => hne (q.trans z.symm)) p2))
    · by_cases q2 : j = 2
      · rw [if_neg q, if_pos q2]; exact u10 i hi q (tc i hi q p1)
      · rw [if_neg q, if_neg q2]; exact (t13 i j hi hj hne).2 (tc i hi q p1) (tc j hj q2 p2)
