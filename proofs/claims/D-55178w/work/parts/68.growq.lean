/-! ===== A CUE ADDED ===== -/
theorem qPos_lt {f : Nat → Int32} {li : Int32} : ∀ {n : Nat}, mQs f n → ∀ k, k < qPos f li n ↔ k < n ∧ f (83 + 4 * k) < li := by
  intro n
  induction n with
  | zero => intro _ k; simp [qPos, xCt]
  | succ n ih =>
    intro h k
    have h' : mQs f n := fun i j hi hj => h i j hi (by omega)
    have ih := ih h'
    rw [qPos_s]
    by_cases q : f (83 + 4 * n) < li
    · rw [if_pos q]
      have e : qPos f li n = n := by
        rcases Nat.lt_or_ge (qPos f li n) n with z | z
        · exact absurd ((ih (qPos f li n)).mpr ⟨z, Int32.lt_trans (h _ _ z (by omega)) q⟩) (Nat.lt_irrefl _)
        · have := qPos_n (f := f) (li := li) (n := n); omega
      rw [e]
      constructor
      · intro w
        refine ⟨w, ?_⟩
        by_cases r : k = n
        · subst r; exact q
        · exact Int32.lt_trans (h k n (by omega) (by omega)) q
      · exact fun w => w.1
    · rw [if_neg q, Nat.add_zero, ih]
      constructor
      · rintro ⟨w1, w2⟩; exact ⟨by omega, w2⟩
      · rintro ⟨w1, w2⟩
        refine ⟨?_, w2⟩
        by_cases r : k = n
        · subst r; exact absurd w2 q
        · omega
theorem qIn_0 {f : Nat → Int32} {li : Int32} : ∀ {n : Nat}, qIn f li n = 0 → ∀ k, k < n → f (83 + 4 * k) ≠ li := by
  intro n
  induction n with
  | zero => intro _ k hk; omega
  | succ n ih =>
    intro h k hk
    rw [qIn_s] at h
    by_cases q : qIn f li n ≠ 0 ∨ f (83 + 4 * n) = li
    · rw [if_pos q] at h; exact absurd h (by decide)
    · by_cases r : k = n
      · subst r; exact fun z => q (.inr z)
      · exact ih (Classical.byContradiction (fun z => q (.inl z))) k (by omega)
theorem cueSt_n {f : Nat → Int32} {nq p d j : Nat} {li b y u : Int32} (h : j < 83) (h4 : j ≠ 4) : qCueSt f nq p d li b y u j = f j := by
  unfold qCueSt
  rw [pk_un h4, pk_un (by omega), pk_un (by omega), pk_un (by omega), pk_un (by omega), pk_cpy_out (.inl (by omega))]
theorem cueSt_4 {f : Nat → Int32} {nq p d : Nat} {li b y u : Int32} : qCueSt f nq p d li b y u 4 = nI (nq + 1) := pk_us
/-- a cue's t-th number -/
theorem cueSt_t {f : Nat → Int32} {nq p k t : Nat} {li b y u : Int32} (hp : p ≤ nq) (hk : k < nq + 1) (ht : t < 4) : qCueSt f nq p (nq - p) li b y u (83 + t + 4 * k) = if k < p then f (83 + t + 4 * k) else if k = p then (if t = 0 then li else if t = 1 then b else if t = 2 then y else u) else f (83 + t + 4 * (k - 1)) := by
  unfold qCueSt
  rw [pk_un (by omega)]
  by_cases q : k = p
  · subst q
    rw [if_neg (by omega), if_pos rfl]
    rcases (show t = 0 ∨ t = 1 ∨ t = 2 ∨ t = 3 by omega) with rfl | rfl | rfl | rfl
    · rw [pk_un (by omega), pk_un (by omega), pk_un (by omega)]; exact pk_us
    · rw [pk_un (by omega), pk_un (by omega)]; exact pk_us
    · rw [pk_un (by omega)]; exact pk_us
    · exact pk_us
  · rw [pk_un (by omega), pk_un (by omega), pk_un (by omega), pk_un (by omega)]
    by_cases r : k < p
    · rw [if_pos r, pk_cpy_out (.inl (by omega))]
    · rw [if_neg r, if_neg q, pk_cpy_in (by omega) (by omega)]
      congr 1; omega
theorem cueSt_v {f : Nat → Int32} {nq p k : Nat} {li b y u : Int32} (hp : p ≤ nq) (hk : k < nq + 1) : vQ (qCueSt f nq p (nq - p) li b y u) k = if k < p then vQ f k else if k = p then [.int li, .int b, .int y, .int u] else vQ f (k - 1) := by
  have e := fun t ht => cueSt_t (f := f) (li := li) (b := b) (y := y) (u := u) (t := t) hp hk ht
  unfold vQ
  have e0 := e 0 (by omega)
  have e1 := e 1 (by omega)
  have e2 := e 2 (by omega)
  have e3 := e 3 (by omega)
  rw [show 83 + 4 * k = 83 + 0 + 4 * k by omega, show 84 + 4 * k = 83 + 1 + 4 * k by omega, show 85 + 4 * k = 83 + 2 + 4 * k by omega, show 86 + 4 * k = 83 + 3 + 4 * k by omega, e0, e1, e2, e3]
  by_cases q : k < p
  · simp only [q, if_true]
  · by_cases r : k = p
    · simp [r]
    · simp only [q, r, if_false]
theorem xCue_I {f f' : Nat → Int32} {nb nc nh nq Y : Nat} {li x y u a : Int32} (h : xI f nb nc nh nq Y) (r : xCue f nb nq li x y u = .inl (a, f')) : xI f' nb nc nh (nq + 1) Y := by
  unfold xCue at r
  split at r
  · cases r
  rename_i hx
  split at r
  · cases r
  rename_i hb
  split at r
  · cases r
  rename_i hn
  have hb0 : qIn f li nq = 0 := Classical.byContradiction (fun z => hb (.inl z))
  have hb1 : mIn li 0 99 ≠ 0 := fun z => hb (.inr (.inl z))
  have hb2 : mIn y 0 20 ≠ 0 := fun z => hb (.inr (.inr (.inl z)))
  have hb3 : mIn u 0 9 ≠ 0 := fun z => hb (.inr (.inr (.inr z)))
  obtain ⟨h1, h2, h3, h4, h5, h6, h7⟩ := h
  have hbb : nb ≤ 8 := h1.2.1
  have hc : nc ≤ 12 := h1.2.2.2.1
  have hq : nq ≤ 12 := h1.2.2.2.2.2.2.2
  obtain ⟨i, hi, rfl⟩ := xAt_i (by omega) hx
  cases r
  have hp : qPos f li nq ≤ nq := qPos_n
  have e : ∀ j, j < 83 → j ≠ 4 → qCueSt f nq (qPos f li nq) (nq - qPos f li nq) li (nI i) y u j = f j := fun j q1 q2 => cueSt_n q1 q2
  have e2 := fun k t (hk : k < nq + 1) (ht : t < 4) => cueSt_t (f := f) (li := li) (b := nI i) (y := y) (u := u) (t := t) hp hk ht
  have c83 : ∀ k, 83 + 4 * k = 83 + 0 + 4 * k := fun k => by omega
  have c84 : ∀ k, 84 + 4 * k = 83 + 1 + 4 * k := fun k => by omega
  have c85 : ∀ k, 85 + 4 * k = 83 + 2 + 4 * k := fun k => by omega
  have c86 : ∀ k, 86 + 4 * k = 83 + 3 + 4 * k := fun k => by omega
  refine ⟨?_, ⟨fun k hk => ?_, fun k hk => ?_⟩, iB_c h3 hbb (fun j _ _ => e j (by omega) (by omega)), iW_c h4 hc (fun j _ _ => e j (by omega) (by omega)), iD_c h5 (fun j _ _ => e j (by omega) (by omega)), ⟨fun k j hkj hj => ?_, fun k hk => ?_⟩, iM_c h7 hbb (fun j _ => e j (by omega) (by omega))⟩
  · obtain ⟨q1, q2, q3, q4, q5, q6, q7, q8⟩ := h1
    exact ⟨by rw [e 1 (by omega) (by omega)]; exact q1, q2, by rw [e 2 (by omega) (by omega)]; exact q3, q4, by rw [e 3 (by omega) (by omega)]; exact q5, q6, cueSt_4, by omega⟩
  · rw [e _ (by omega) (by omega)]; exact h2.1 k hk
  · rw [c84, e2 k 1 (by omega) (by omega)]
    by_cases q : k < qPos f li nq
    · rw [if_pos q]; exact h2.2 k (by omega)
    · rw [if_neg q]
      by_cases r : k = qPos f li nq
      · rw [if_pos r]; exact ⟨i, hi, rfl⟩
      · rw [if_neg r]; exact h2.2 (k - 1) (by omega)
  · rw [c83 k, c83 j, e2 k 0 (by omega) (by omega), e2 j 0 (by omega) (by omega)]
    have lt : ∀ k, k < qPos f li nq → f (83 + 0 + 4 * k) < li := fun k hk => ((qPos_lt h6.1 k).mp hk).2
    have gt : ∀ k, k < nq → ¬ k < qPos f li nq → li < f (83 + 0 + 4 * k) := fun k hk hn => by
      have : ¬ f (83 + 4 * k) < li := fun z => hn ((qPos_lt (li := li) h6.1 k).mpr ⟨hk, z⟩)
      exact Int32.lt_of_le_of_ne (Int32.not_lt.mp this) (fun z => qIn_0 hb0 k hk z.symm)
    by_cases a1 : k < qPos f li nq
    · rw [if_pos a1]
      by_cases b1 : j < qPos f li nq
      · rw [if_pos b1]; exact h6.1 k j hkj (by omega)
      · rw [if_neg b1]
        by_cases b2 : j = qPos f li nq
        · rw [if_pos b2]; exact lt k a1
        · rw [if_neg b2]; exact Int32.lt_trans (lt k a1) (gt (j - 1) (by omega) (by omega))
    · rw [if_neg a1]
      by_cases a2 : k = qPos f li nq
      · rw [if_pos a2, if_neg (show ¬ j < qPos f li nq by omega), if_neg (show ¬ j = qPos f li nq by omega)]
        exact gt (j - 1) (by omega) (by omega)
      · rw [if_neg a2, if_neg (show ¬ j < qPos f li nq by omega), if_neg (show ¬ j = qPos f li nq by omega)]
        exact h6.1 (k - 1) (j - 1) (by omega) (by omega)
  · rw [c83, c85, c86, e2 k 0 (by omega) (by omega), e2 k 2 (by omega) (by omega), e2 k 3 (by omega) (by omega)]
    by_cases q : k < qPos f li nq
    · rw [if_pos q, if_pos q, if_pos q]; exact h6.2 k (by omega)
    · rw [if_neg q, if_neg q, if_neg q]
      by_cases r : k = qPos f li nq
      · rw [if_pos r, if_pos r, if_pos r]
        exact ⟨xN_in (by decide) hb1, xN_in (by decide) hb2, xN_in (by decide) hb3⟩
      · rw [if_neg r, if_neg r, if_neg r]; exact h6.2 (k - 1) (by omega)
/-- the order with a new one at place p -/
def oIns (o : Nat → Nat) (n p : Nat) : Nat → Nat := fun j => if j = n then p else if o j < p then o j else o j + 1
theorem oIns_p {o : Nat → Nat} {n p : Nat} (h : sPerm o n) (hp : p ≤ n) : sPerm (oIns o n p) (n + 1) := by
  obtain ⟨a, b, c⟩ := h
  unfold oIns
  refine ⟨fun j hj => ?_, fun i j hi hj e => ?_, fun k hk => ?_⟩
  · by_cases q : j = n
    · simp only [q, if_true]; omega
    · simp only [q, if_false]
      have := a j (by omega)
      split <;> omega
  · by_cases q : i = n
    · by_cases r : j = n
      · omega
      · simp only [q, r, if_true, if_false] at e
        split at e <;> omega
    · by_cases r : j = n
      · simp only [q, r, if_true, if_false] at e
        split at e <;> omega
      · simp only [q, r, if_false] at e
        refine b i j (by omega) (by omega) ?_
        split at e <;> split at e <;> omega
  · by_cases q : k = p
    · exact ⟨n, by omega, by simp [q]⟩
    · by_cases r : k < p
      · obtain ⟨j, hj, e⟩ := c k (by omega)
        exact ⟨j, by omega, by simp only [show j ≠ n by omega, if_false, e, r, if_true]⟩
      · obtain ⟨j, hj, e⟩ := c (k - 1) (by omega)
        exact ⟨j, by omega, by simp only [show j ≠ n by omega, if_false, e, show ¬ k - 1 < p by omega]; omega⟩
/-- the addresses with a cue at place p -/
def tQ (A : Nat → Nat → Nat) (p y d : Nat) : Nat → Nat → Nat := fun a b => if a = 6 then lsI (A 6) p y b else if a = 2 ∧ b = 3 then d else A a b
theorem tQ_0 {A : Nat → Nat → Nat} {p y d a : Nat} (h1 : a ≠ 6) (h2 : a ≠ 2) : tQ A p y d a = A a := by
  funext b
  simp [tQ, h1, h2]
theorem tQ_6 {A : Nat → Nat → Nat} {p y d : Nat} : tQ A p y d 6 = lsI (A 6) p y := by
  funext b
  simp [tQ]
theorem tQ_2 {A : Nat → Nat → Nat} {p y d j : Nat} : tQ A p y d 2 j = if j = 3 then d else A 2 j := by
  simp [tQ]
theorem th_addQ {K : gK} {h0 h h' : AH} {A : Nat → Nat → Nat} {o : Nat → Nat} {f : Nat → Int32} {nb nc nh nq y p : Nat} {li b yy u : Int32} (hinj : ∀ i j, i < 8 → j < 8 → gT K i = gT K j → i = j) (hKA : gKA K) (hb : nb ≤ 8) (hc : nc ≤ 12) (hh : nh ≤ 6) (T : th K (gNw K h0) h A o f nb nc nh nq) (G : lsG K h0 h (A 1 3) (A 2 3) (nq + 1) (lsP (fun i => A 6 (o i)) nq y) h') (hy : h' y = some (.inr (12, [.int li, .int b, .int yy, .int u]))) (hp : p ≤ nq) : ∃ (A' : Nat → Nat → Nat) (o' : Nat → Nat), A' 7 1 = A 7 1 ∧ th K (gNw K h0) h' A' o' (qCueSt f nq p (nq - p) li b yy u) nb nc nh (nq + 1) := by
  obtain ⟨d', u1, u2, ⟨MD, u3⟩, ⟨md, u4⟩, u5, u6, u7, u8, u9, u10⟩ := th_grow (r := 3) (y := y) (nb := nb) (nc := nc) (nh := nh) (nq := nq) hinj hKA T (by decide) G
  have b7 : tQ A p y d' 7 = A 7 := tQ_0 (by decide) (by decide)
  have b0 : tQ A p y d' 0 = A 0 := tQ_0 (by decide) (by decide)
  have b1 : tQ A p y d' 1 = A 1 := tQ_0 (by decide) (by decide)
  have b3 : tQ A p y d' 3 = A 3 := tQ_0 (by decide) (by decide)
  have b4 : tQ A p y d' 4 = A 4 := tQ_0 (by decide) (by decide)
  have b5 : tQ A p y d' 5 = A 5 := tQ_0 (by decide) (by decide)
  have b6 : tQ A p y d' 6 = lsI (A 6) p y := tQ_6
  have b2 : ∀ j, tQ A p y d' 2 j = if j = 3 then d' else A 2 j := fun j => tQ_2
  have e : ∀ j, j < 83 → j ≠ 4 → qCueSt f nq p (nq - p) li b yy u j = f j := fun j q1 q2 => cueSt_n q1 q2
  obtain ⟨⟨-, t2⟩, -, -, -, ⟨-, t7⟩, ⟨-, t9⟩, ⟨-, t11⟩, -, t13, t14⟩ := T
  refine ⟨tQ A p y d', oIns o nq p, by rw [b7], ⟨⟨?_, by rw [b7]; exact t2⟩, fun j hj => by rw [b0, b1]; exact u2 j hj, ⟨fun j => if j = 3 then md else MD j, ?_⟩, by rw [b7]; exact u5.c (fun j h1 h2 => e j (by omega) (by omega)), ?_, ?_, ?_, ?_, ?_, oIns_p t14 hp⟩⟩
  · have ev : vT (qCueSt f nq p (nq - p) li b yy u) nb (tQ A p y d') = vT f nb A := by
      unfold vT
      rw [b0, b7, show mOn (qCueSt f nq p (nq - p) li b yy u) nb = mOn f nb from mSum_c (fun k hk => e _ (by omega) (by omega)), e 5 (by omega) (by omega), e 6 (by omega) (by omega), e 0 (by omega) (by omega), e 7 (by omega) (by omega), e 8 (by omega) (by omega), e 10 (by omega) (by omega)]
    rw [b7, ev]; exact u1
  · refine four (by show lsO K _ h' (tQ A p y d' 1 0) (tQ A p y d' 2 0) nb (tQ A p y d' 3) (MD 0); rw [b1, b2, if_neg (by decide), b3]; exact u3 0 (by decide) (by decide)) (by show lsO K _ h' (tQ A p y d' 1 1) (tQ A p y d' 2 1) nc (tQ A p y d' 4) (MD 1); rw [b1, b2, if_neg (by decide), b4]; exact u3 1 (by decide) (by decide)) (by show lsO K _ h' (tQ A p y d' 1 2) (tQ A p y d' 2 2) nh (tQ A p y d' 5) (MD 2); rw [b1, b2, if_neg (by decide), b5]; exact u3 2 (by decide) (by decide)) ?_
    show lsO K _ h' (tQ A p y d' 1 3) (tQ A p y d' 2 3) (nq + 1) (fun i => tQ A p y d' 6 (oIns o nq p i)) md
    rw [b1, b2, if_pos rfl, b6]
    refine lsO.c u4 (fun i hi => ?_)
    unfold lsP lsI oIns
    by_cases q : i = nq
    · simp [q]
    · by_cases r : o i < p
      · simp [q, r]
      · simp only [q, r, if_false]
        rw [if_neg (by omega), if_neg (by omega)]
        rfl
  · rw [b3]; exact ⟨u6.c (fun i hi => vB_c hc (fun z hz => e z (by omega) (by omega))), t7⟩
  · rw [b4]; exact ⟨u7.c (fun i hi => vC_c (fun z h1 h2 => e z (by omega) (by omega))), t9⟩
  · rw [b5]; exact ⟨u8.c (fun i hi => vH_c (fun z h1 h2 => e z (by omega) (by omega))), t11⟩
  · rw [b6]
    intro k hk
    have ev : vQ (qCueSt f nq p (nq - p) li b yy u) k = if k < p then vQ f k else if k = p then [.int li, .int b, .int yy, .int u] else vQ f (k - 1) := cueSt_v hp hk
    rw [ev]
    unfold lsI
    by_cases q : k < p
    · rw [if_pos q, if_pos q]; exact u9 k (by omega)
    · rw [if_neg q, if_neg q]
      by_cases r : k = p
      · rw [if_pos r, if_pos r]; exact hy
      · rw [if_neg r, if_neg r]; exact u9 (k - 1) (by omega)
  · intro i j hi hj hne
    rw [b1, b2, b2]
    refine ⟨(t13 i j hi hj hne).1, fun p1 p2 => ?_⟩
    have tc : ∀ k, k < 4 → k ≠ 3 → 0 < tC nb nc nh (nq + 1) k → 0 < tC nb nc nh nq k := four (fun _ z => z) (fun _ z => z) (fun _ z => z) (fun z _ => absurd rfl z)
    by_cases q : i = 3
    · rw [if_pos q, if_neg (fun z => hne (q.trans z.symm))]
      exact Ne.symm (u10 j hj (fun z => hne (q.trans z.symm)) (tc j hj (fun z => hne (q.trans z.symm)) p2))
    · by_cases q2 : j = 3
      · rw [if_neg q, if_pos q2]; exact u10 i hi q (tc i hi q p1)
      · rw [if_neg q, if_neg q2]; exact (t13 i j hi hj hne).2 (tc i hi q p1) (tc j hj q2 p2)
/-- the addresses of a theatre just made -/
def tM (t z r0 r1 r2 r3 a0 a1 a2 a3 e : Nat) : Nat → Nat → Nat
  | 0, 0 => r0
  | 0, 1 => r1
  | 0, 2 => r2
  | 0, _ => r3
  | 1, 0 => a0
  | 1, 1 => a1
  | 1, 2 => a2
  | 1, _ => a3
  | 2, _ => e
  | 7, 1 => t
  | 7, _ => z
  | _, _ => 0
/-- a theatre just made -/
theorem th_new {K : gK} {N : Nat → Prop} {h : AH} {t z r0 r1 r2 r3 a0 a1 a2 a3 : Nat} {f : Nat → Int32} {d0 d1 d2 d3 : Int32} (T : h t = some (.inr (2, [.ref r0, .ref r1, .ref r2, .ref r3, .ref z, .int 15, .int 60, .int 40, .int 0, .int (-1), .int 0, .int 0]))) (TN : N t) (R0 : h r0 = some (.inr (3, [.ref a0, .int 8]))) (R1 : h r1 = some (.inr (3, [.ref a1, .int 12]))) (R2 : h r2 = some (.inr (3, [.ref a2, .int 6]))) (R3 : h r3 = some (.inr (3, [.ref a3, .int 12])))
    (L0 : h a0 = some (.inr (4, [.int d0, .ref (gAd K 203), .int 0]))) (L1 : h a1 = some (.inr (4, [.int d1, .ref (gAd K 203), .int 0]))) (L2 : h a2 = some (.inr (4, [.int d2, .ref (gAd K 203), .int 0]))) (L3 : h a3 = some (.inr (4, [.int d3, .ref (gAd K 203), .int 0]))) (N0 : N a0) (N1 : N a1) (N2 : N a2) (N3 : N a3) (Z : h z = some (.inl (gT K 2, 4, .inl (fun _ => 0)))) (ZN : N z) (ZO : gOld K z = none)
    (n01 : a0 ≠ a1) (n02 : a0 ≠ a2) (n03 : a0 ≠ a3) (n12 : a1 ≠ a2) (n13 : a1 ≠ a3) (n23 : a2 ≠ a3) : thE K N h t x0 := by
  refine ⟨tM t z r0 r1 r2 r3 a0 a1 a2 a3 (gAd K 203), id, 0, 0, 0, 0, rfl, ⟨rfl, by omega, rfl, by omega, rfl, by omega, rfl, by omega⟩, ⟨T, TN⟩, four R0 R1 R2 R3, ⟨fun j => if j = 0 then d0 else if j = 1 then d1 else if j = 2 then d2 else d3, four ⟨L0, N0, by decide, .inl ⟨rfl, rfl⟩⟩ ⟨L1, N1, by decide, .inl ⟨rfl, rfl⟩⟩ ⟨L2, N2, by decide, .inl ⟨rfl, rfl⟩⟩ ⟨L3, N3, by decide, .inl ⟨rfl, rfl⟩⟩⟩, ⟨fun _ => 0, Z, ZN, ZO, fun k hk => ?_⟩, ⟨tLs.n0, fun i hi => absurd hi (Nat.not_lt_zero i)⟩, ⟨tLs.n0, fun i hi => absurd hi (Nat.not_lt_zero i)⟩, ⟨tLs.n0, fun i hi => absurd hi (Nat.not_lt_zero i)⟩, tLs.n0, ?_, ⟨fun j hj => absurd hj (Nat.not_lt_zero j), fun i j hi => absurd hi (Nat.not_lt_zero i), fun k hk => absurd hk (Nat.not_lt_zero k)⟩⟩
  · unfold x0
    rw [if_neg (by omega), if_neg (by omega), if_neg (by omega)]
  · have z : ∀ k, ¬ 0 < tC 0 0 0 0 k := fun k => by
      rcases k with _ | _ | _ | k <;> exact Nat.lt_irrefl 0
    intro i j hi hj hne
    refine ⟨?_, fun p => absurd p (z i)⟩
    rcases (show i = 0 ∨ i = 1 ∨ i = 2 ∨ i = 3 by omega) with rfl | rfl | rfl | rfl <;> rcases (show j = 0 ∨ j = 1 ∨ j = 2 ∨ j = 3 by omega) with rfl | rfl | rfl | rfl <;> first | exact absurd rfl hne | assumption | (exact Ne.symm (by assumption))
/-- the addresses of a theatre with all its things -/
def tM2 (t z r0 r1 r2 r3 a0 a1 a2 a3 d0 d1 d2 d3 : Nat) (B C H Q : Nat → Nat) : Nat → Nat → Nat
  | 0, 0 => r0
  | 0, 1 => r1
  | 0, 2 => r2
  | 0, _ => r3
  | 1, 0 => a0
  | 1, 1 => a1
  | 1, 2 => a2
  | 1, _ => a3
  | 2, 0 => d0
  | 2, 1 => d1
  | 2, 2 => d2
  | 2, _ => d3
  | 3, i => B i
  | 4, i => C i
  | 5, i => H i
  | 6, i => Q i
  | 7, 1 => t
  | _, _ => z
theorem th_cp {K : gK} {N : Nat → Prop} {h : AH} {t z r0 r1 r2 r3 a0 a1 a2 a3 d0 d1 d2 d3 nb nc nh nq : Nat} {B C H Q o : Nat → Nat} {f dz : Nat → Int32} {m0 m1 m2 m3 : Int32} (T : h t = some (.inr (2, [.ref r0, .ref r1, .ref r2, .ref r3, .ref z, .int (f 5), .int (60 - mOn f nb), .int (f 6), .int (f 0), .int (f 7), .int (f 8), .int (f 10)]))) (TN : N t) (R0 : h r0 = some (.inr (3, [.ref a0, .int 8]))) (R1 : h r1 = some (.inr (3, [.ref a1, .int 12]))) (R2 : h r2 = some (.inr (3, [.ref a2, .int 6]))) (R3 : h r3 = some (.inr (3, [.ref a3, .int 12])))
    (L0 : lsO K N h a0 d0 nb B m0) (L1 : lsO K N h a1 d1 nc C m1) (L2 : lsO K N h a2 d2 nh H m2) (L3 : lsO K N h a3 d3 nq (fun i => Q (o i)) m3) (Z : h z = some (.inl (gT K 2, 4, .inl dz))) (ZN : N z) (ZO : gOld K z = none) (ZD : ∀ k, k < 4 → dz k = f (79 + k)) (TB : tLs h 9 nb B (vB f nc)) (NB : ∀ i, i < nb → N (B i)) (TC : tLs h 10 nc C (vC f)) (NC : ∀ i, i < nc → N (C i)) (TH : tLs h 11 nh H (vH f)) (NH : ∀ i, i < nh → N (H i)) (TQ : tLs h 12 nq Q (vQ f))
    (n01 : a0 ≠ a1 ∧ (0 < nb → 0 < nc → d0 ≠ d1)) (n02 : a0 ≠ a2 ∧ (0 < nb → 0 < nh → d0 ≠ d2)) (n03 : a0 ≠ a3 ∧ (0 < nb → 0 < nq → d0 ≠ d3)) (n12 : a1 ≠ a2 ∧ (0 < nc → 0 < nh → d1 ≠ d2)) (n13 : a1 ≠ a3 ∧ (0 < nc → 0 < nq → d1 ≠ d3)) (n23 : a2 ≠ a3 ∧ (0 < nh → 0 < nq → d2 ≠ d3)) (Sg : sPerm o nq) (hC : mC f nb nc nh nq) : thE K N h t f := by
  have sw : ∀ {a b d e p q : Nat}, (a ≠ b ∧ (0 < p → 0 < q → d ≠ e)) → (b ≠ a ∧ (0 < q → 0 < p → e ≠ d)) := fun w => ⟨Ne.symm w.1, fun x y => Ne.symm (w.2 y x)⟩
  refine ⟨tM2 t z r0 r1 r2 r3 a0 a1 a2 a3 d0 d1 d2 d3 B C H Q, o, nb, nc, nh, nq, rfl, hC, ⟨T, TN⟩, four R0 R1 R2 R3, ⟨fun j => if j = 0 then m0 else if j = 1 then m1 else if j = 2 then m2 else m3, four L0 L1 L2 L3⟩, ⟨dz, Z, ZN, ZO, ZD⟩, ⟨TB, NB⟩, ⟨TC, NC⟩, ⟨TH, NH⟩, TQ, ?_, Sg⟩
  intro i j hi hj hne
  rcases (show i = 0 ∨ i = 1 ∨ i = 2 ∨ i = 3 by omega) with rfl | rfl | rfl | rfl <;> rcases (show j = 0 ∨ j = 1 ∨ j = 2 ∨ j = 3 by omega) with rfl | rfl | rfl | rfl
  · exact absurd rfl hne
  · exact n01
  · exact n02
  · exact n03
  · exact sw n01
  · exact absurd rfl hne
  · exact n12
  · exact n13
  · exact sw n02
  · exact sw n12
  · exact absurd rfl hne
  · exact n23
  · exact sw n03
  · exact sw n13
  · exact sw n23
  · exact absurd rfl hne
theorem lsO.otA {K : gK} {N : Nat → Prop} {h h1 : AH} {a d n x t m m2 : Nat} {l : Nat → Nat} {md : Int32} {D D2 : (Nat → Int32) ⊕ (Nat → Int64) ⊕ (Nat → UInt32) ⊕ (Nat → UInt64) ⊕ (Nat → Option Nat)} (hinj : ∀ i j, i < 8 → j < 8 → gT K i = gT K j → i = j) (e1 : h1 = gu h x (.inl (gT K t, m, D))) (hx : h x = some (.inl (gT K t, m2, D2))) (hc : t < 8 ∧ t ≠ 6) (p : lsO K N h a d n l md) : lsO K N h1 a d n l md := by
  obtain ⟨q1, q2, q3, q4⟩ := p
  refine ⟨gu_t e1 q1 (gneA q1 hx), q2, q3, ?_⟩
  rcases q4 with q | ⟨r1, r2, r3, r4⟩
  · exact .inl q
  · refine .inr ⟨r1, r2, r3, gu_t e1 r4 ?_⟩
    intro z
    rw [z, hx] at r4
    have := Option.some.inj r4
    injection this with e2
    exact hc.2 (hinj t 6 hc.1 (by decide) (congrArg Prod.fst e2))
/-- answers a theatre at the state f that nothing else names -/
def cpE (K : gK) (h : AH) (f : Nat → Int32) : Option Value → AH → Prop := fun v h9 => ∃ t, v = some (.ref t) ∧ gNw K h t ∧ gE h h9 ∧ thE K (gNw K h) h9 t f
