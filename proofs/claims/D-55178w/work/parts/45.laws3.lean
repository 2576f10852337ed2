/-! ===== WHAT HOLDS OF THE STATE ALL ALONG ===== -/
theorem mIn_p {x lo hi : Int32} (h : mIn x lo hi ≠ 0) : lo ≤ x ∧ x ≤ hi := by
  unfold mIn at h
  split at h
  · assumption
  · exact absurd rfl h
theorem xN_in {x hi : Int32} {M : Nat} (hh : hi.toInt = M) (h : mIn x 0 hi ≠ 0) : xN x M := by
  have q := mIn_p h
  exact nI_of2 hh (Int32.not_lt.mpr q.1) q.2
def iB (f : Nat → Int32) (nb Y : Nat) : Prop := ∀ i, i < nb → xN (f (11 + 4 * i)) 20 ∧ xN (f (12 + 4 * i)) 20 ∧ xN (f (13 + 4 * i)) Y
def iW (f : Nat → Int32) (nc : Nat) : Prop := ∀ k, k < nc → xN (f (43 + 2 * k)) 90
def iD (f : Nat → Int32) : Prop := ∀ k, k < 4 → xN (f (79 + k)) 1
def iQ (f : Nat → Int32) (nq : Nat) : Prop := mQs f nq ∧ ∀ k, k < nq → xN (f (83 + 4 * k)) 99 ∧ xN (f (85 + 4 * k)) 20 ∧ xN (f (86 + 4 * k)) 9
def iM (f : Nat → Int32) (nb : Nat) : Prop := f 9 = mSum (fun i => f (14 + 4 * i)) nb
def xI (f : Nat → Int32) (nb nc nh nq Y : Nat) : Prop := mC f nb nc nh nq ∧ mL f nb nc nq ∧ iB f nb Y ∧ iW f nc ∧ iD f ∧ iQ f nq ∧ iM f nb
theorem xN_m {x : Int32} {a b : Nat} (h : xN x a) (q : a ≤ b) : xN x b := by
  obtain ⟨j, h1, h2⟩ := h
  exact ⟨j, by omega, h2⟩
theorem xI_Y {f : Nat → Int32} {nb nc nh nq Y Z : Nat} (h : xI f nb nc nh nq Y) (q : Y ≤ Z) : xI f nb nc nh nq Z := by
  obtain ⟨h1, h2, h3, h4⟩ := h
  exact ⟨h1, h2, fun i hi => ⟨(h3 i hi).1, (h3 i hi).2.1, xN_m (h3 i hi).2.2 q⟩, h4⟩
/-! untouched parts -/
theorem mC_c {f g : Nat → Int32} {nb nc nh nq : Nat} (h : mC f nb nc nh nq) (e : ∀ j, 1 ≤ j → j ≤ 4 → g j = f j) : mC g nb nc nh nq := by
  unfold mC at *
  rw [e 1 (by omega) (by omega), e 2 (by omega) (by omega), e 3 (by omega) (by omega), e 4 (by omega) (by omega)]
  exact h
theorem mL_c {f g : Nat → Int32} {nb nc nq : Nat} (h : mL f nb nc nq) (hc : nc ≤ 12) (hq : nq ≤ 12) (e : ∀ j, (43 ≤ j ∧ j < 67) ∨ (83 ≤ j ∧ j < 131) → g j = f j) : mL g nb nc nq :=
  ⟨fun k hk => by rw [e _ (by omega)]; exact h.1 k hk, fun k hk => by rw [e _ (by omega)]; exact h.2 k hk⟩
theorem iB_c {f g : Nat → Int32} {nb Y : Nat} (h : iB f nb Y) (hb : nb ≤ 8) (e : ∀ j, 11 ≤ j → j < 43 → g j = f j) : iB g nb Y := fun i hi => by
  rw [e _ (by omega) (by omega), e _ (by omega) (by omega), e _ (by omega) (by omega)]; exact h i hi
theorem iW_c {f g : Nat → Int32} {nc : Nat} (h : iW f nc) (hc : nc ≤ 12) (e : ∀ j, 43 ≤ j → j < 67 → g j = f j) : iW g nc := fun i hi => by
  rw [e _ (by omega) (by omega)]; exact h i hi
theorem iD_c {f g : Nat → Int32} (h : iD f) (e : ∀ j, 79 ≤ j → j < 83 → g j = f j) : iD g := fun i hi => by
  rw [e _ (by omega) (by omega)]; exact h i hi
theorem iQ_c {f g : Nat → Int32} {nq : Nat} (h : iQ f nq) (hq : nq ≤ 12) (e : ∀ j, 83 ≤ j → j < 131 → g j = f j) : iQ g nq :=
  ⟨fun i j hi hj => by rw [e _ (by omega) (by omega), e _ (by omega) (by omega)]; exact h.1 i j hi hj, fun k hk => by
    rw [e _ (by omega) (by omega), e _ (by omega) (by omega), e _ (by omega) (by omega)]; exact h.2 k hk⟩
theorem iM_c {f g : Nat → Int32} {nb : Nat} (h : iM f nb) (hb : nb ≤ 8) (e : ∀ j, j = 9 ∨ (11 ≤ j ∧ j < 43) → g j = f j) : iM g nb := by
  unfold iM at *
  rw [e 9 (by omega), h]
  exact mSum_c (fun k hk => (e _ (by omega)).symm)
/-- only scalars changed -/
theorem xI_c {f g : Nat → Int32} {nb nc nh nq Y : Nat} (h : xI f nb nc nh nq Y) (e : ∀ j, (1 ≤ j ∧ j ≤ 4) ∨ j = 9 ∨ 11 ≤ j → g j = f j) : xI g nb nc nh nq Y := by
  obtain ⟨h1, h2, h3, h4, h5, h6, h7⟩ := h
  have hb : nb ≤ 8 := h1.2.1
  have hc : nc ≤ 12 := h1.2.2.2.1
  have hq : nq ≤ 12 := h1.2.2.2.2.2.2.2
  exact ⟨mC_c h1 (fun j _ _ => e j (by omega)), mL_c h2 hc hq (fun j _ => e j (by omega)), iB_c h3 hb (fun j _ _ => e j (by omega)), iW_c h4 hc (fun j _ _ => e j (by omega)), iD_c h5 (fun j _ _ => e j (by omega)), iQ_c h6 hq (fun j _ _ => e j (by omega)), iM_c h7 hb (fun j _ => e j (by omega))⟩
theorem xTold_I {f f' : Nat → Int32} {nb nc nh nq Y : Nat} {k a : Int32} (h : xI f nb nc nh nq Y) (r : xTold f k = .inl (a, f')) : xI f' nb nc nh nq Y := by
  unfold xTold at r
  split at r
  · cases r
  · cases r
    exact xI_c h (fun j hj => pk_un (by omega))
theorem xBar_I {f f' : Nat → Int32} {nb nc nh nq Y : Nat} {a : Int32} (h : xI f nb nc nh nq Y) (r : xBar f nb = .inl (a, f')) : xI f' (nb + 1) nc nh nq Y := by
  obtain ⟨h1, h2, h3, h4, h5, h6, h7⟩ := h
  have hb : nb ≤ 8 := h1.2.1
  have hc : nc ≤ 12 := h1.2.2.2.1
  have hq : nq ≤ 12 := h1.2.2.2.2.2.2.2
  unfold xBar at r
  split at r
  · cases r
  · rename_i hne
    cases r
    have e : ∀ j, j ≠ 1 → (j < 11 + 4 * nb ∨ 14 + 4 * nb < j) → upd (upd (upd (upd (upd f (11 + 4 * nb) 0) (12 + 4 * nb) 0) (13 + 4 * nb) 0) (14 + 4 * nb) 0) 1 (nI (nb + 1)) j = f j := fun j q1 q2 => by
      rw [pk_un q1, pk_un (by omega), pk_un (by omega), pk_un (by omega), pk_un (by omega)]
    have z : ∀ t, t < 4 → upd (upd (upd (upd (upd f (11 + 4 * nb) 0) (12 + 4 * nb) 0) (13 + 4 * nb) 0) (14 + 4 * nb) 0) 1 (nI (nb + 1)) (11 + t + 4 * nb) = 0 := fun t ht => by
      rw [pk_un (by omega)]
      rcases (show t = 0 ∨ t = 1 ∨ t = 2 ∨ t = 3 by omega) with rfl | rfl | rfl | rfl
      · rw [pk_un (by omega), pk_un (by omega), pk_un (by omega)]; exact pk_us
      · rw [pk_un (by omega), pk_un (by omega)]; exact pk_us
      · rw [pk_un (by omega)]; exact pk_us
      · exact pk_us
    refine ⟨?_, ?_, ?_, iW_c h4 hc (fun j _ _ => e j (by omega) (by omega)), iD_c h5 (fun j _ _ => e j (by omega) (by omega)), iQ_c h6 hq (fun j _ _ => e j (by omega) (by omega)), ?_⟩
    · obtain ⟨q1, q2, q3, q4, q5, q6, q7, q8⟩ := h1
      refine ⟨pk_us, by omega, ?_, q4, ?_, q6, ?_, q8⟩
      · rw [e _ (by omega) (by omega)]; exact q3
      · rw [e _ (by omega) (by omega)]; exact q5
      · rw [e _ (by omega) (by omega)]; exact q7
    · refine ⟨fun k hk => ?_, fun k hk => ?_⟩
      · rw [e _ (by omega) (by omega)]
        rcases h2.1 k hk with q | ⟨i, hi, q⟩
        · exact .inl q
        · exact .inr ⟨i, by omega, q⟩
      · rw [e _ (by omega) (by omega)]
        obtain ⟨i, hi, q⟩ := h2.2 k hk
        exact ⟨i, by omega, q⟩
    · intro i hi
      by_cases q : i = nb
      · subst q
        refine ⟨⟨0, by omega, ?_⟩, ⟨0, by omega, ?_⟩, ⟨0, by omega, ?_⟩⟩
        · exact (z 0 (by omega)).trans nI_0.symm
        · exact (z 1 (by omega)).trans nI_0.symm
        · exact (z 2 (by omega)).trans nI_0.symm
      · rw [e _ (by omega) (by omega), e _ (by omega) (by omega), e _ (by omega) (by omega)]; exact h3 i (by omega)
    · unfold iM at *
      rw [mSum_s, e 9 (by omega) (by omega), h7, mSum_c (g := fun i => f (14 + 4 * i)) (fun k hk => e _ (by omega) (by omega))]
      rw [show (14 + 4 * nb) = 11 + 3 + 4 * nb by omega]
      have := z 3 (by omega)
      simp only [this, Int32.add_zero]
theorem xRope_I {f f' : Nat → Int32} {nb nc nh nq Y : Nat} {x a : Int32} (h : xI f nb nc nh nq Y) (r : xRope f nb x = .inl (a, f')) : xI f' nb nc nh nq Y := by
  unfold xRope at r
  split at r
  · cases r
  rename_i hx
  obtain ⟨i, hi, rfl⟩ := xAt_i (by have : nb ≤ 8 := h.1.2.1; omega) hx
  obtain ⟨h1, h2, h3, h4, h5, h6, h7⟩ := h
  have hb : nb ≤ 8 := h1.2.1
  have hc : nc ≤ 12 := h1.2.2.2.1
  have hq : nq ≤ 12 := h1.2.2.2.2.2.2.2
  rw [nI_clamp (by omega)] at r
  unfold xRope1 at r
  split at r
  · cases r
  split at r
  · cases r
  cases r
  have e : ∀ j, j ≠ 6 → j ≠ 13 + 4 * i → upd (upd f 6 (f 6 - 5)) (13 + 4 * i) 0 j = f j := fun j q1 q2 => by rw [pk_un q2, pk_un q1]
  refine ⟨mC_c h1 (fun j _ _ => e j (by omega) (by omega)), mL_c h2 hc hq (fun j _ => e j (by omega) (by omega)), fun k hk => ?_, iW_c h4 hc (fun j _ _ => e j (by omega) (by omega)), iD_c h5 (fun j _ _ => e j (by omega) (by omega)), iQ_c h6 hq (fun j _ _ => e j (by omega) (by omega)), ?_⟩
  · rw [e (11 + 4 * k) (by omega) (by omega), e (12 + 4 * k) (by omega) (by omega)]
    refine ⟨(h3 k hk).1, (h3 k hk).2.1, ?_⟩
    by_cases q : k = i
    · subst q; exact ⟨0, by omega, pk_us.trans nI_0.symm⟩
    · rw [e _ (by omega) (by omega)]; exact (h3 k hk).2.2
  · unfold iM at *
    rw [e 9 (by omega) (by omega), h7]
    exact mSum_c (fun k hk => (e _ (by omega) (by omega)).symm)
theorem xYrs_t {f : Nat → Int32} {y : Int32} {i : Nat} : ∀ {k : Nat}, i < k → xYrs f y k (13 + 4 * i) = f (13 + 4 * i) + y := by
  intro k
  induction k with
  | zero => intro h; omega
  | succ k ih =>
    intro h
    show upd (xYrs f y k) (13 + 4 * k) (xYrs f y k (13 + 4 * k) + y) (13 + 4 * i) = _
    by_cases q : i = k
    · subst q; rw [pk_us, xYrs_n (fun j hj => by omega)]
    · rw [pk_un (by omega), ih (by omega)]
theorem xYear_I {f f' : Nat → Int32} {nb nc nh nq Y : Nat} {y a : Int32} (h : xI f nb nc nh nq Y) (r : xYear f nb nc y = .inl (a, f')) : xI f' nb nc nh nq (Y + 9) := by
  unfold xYear at r
  split at r
  · cases r
  rename_i hy
  have hyb : xN y 9 := by
    have q := mIn_p hy
    exact nI_of2 (by decide) (fun z => absurd (Int32.lt_of_le_of_lt q.1 z) (by decide)) q.2
  obtain ⟨h1, h2, h3, h4, h5, h6, h7⟩ := h
  have hb : nb ≤ 8 := h1.2.1
  have hc : nc ≤ 12 := h1.2.2.2.1
  have hq : nq ≤ 12 := h1.2.2.2.2.2.2.2
  cases r
  have e : ∀ j, j ≠ 0 → (∀ i, i < nb → j ≠ 13 + 4 * i) → upd (xYrs f y nb) 0 (xYrs f y nb 0 + y) j = f j := fun j q1 q2 => by rw [pk_un q1, xYrs_n q2]
  refine ⟨mC_c h1 (fun j _ _ => e j (by omega) (fun i _ => by omega)), mL_c h2 hc hq (fun j _ => e j (by omega) (fun i _ => by omega)), fun k hk => ?_, iW_c h4 hc (fun j _ _ => e j (by omega) (fun i _ => by omega)), iD_c h5 (fun j _ _ => e j (by omega) (fun i _ => by omega)), iQ_c h6 hq (fun j _ _ => e j (by omega) (fun i _ => by omega)), ?_⟩
  · rw [e (11 + 4 * k) (by omega) (fun i _ => by omega), e (12 + 4 * k) (by omega) (fun i _ => by omega)]
    refine ⟨(h3 k hk).1, (h3 k hk).2.1, ?_⟩
    rw [pk_un (by omega), xYrs_t hk]
    obtain ⟨u, hu, eu⟩ := (h3 k hk).2.2
    obtain ⟨v, hv, ev⟩ := hyb
    exact ⟨u + v, by omega, by rw [eu, ev, nI_add]⟩
  · unfold iM at *
    rw [e 9 (by omega) (fun i _ => by omega), h7]
    exact mSum_c (fun k hk => (e _ (by omega) (fun i _ => by omega)).symm)
theorem xCurtain_I {f f' : Nat → Int32} {nb nc nh nq Y : Nat} {w a : Int32} (h : xI f nb nc nh nq Y) (r : xCurtain f nc w = .inl (a, f')) : xI f' nb (nc + 1) nh nq Y := by
  unfold xCurtain at r
  split at r
  · cases r
  rename_i hw
  split at r
  · cases r
  rename_i hn
  obtain ⟨h1, h2, h3, h4, h5, h6, h7⟩ := h
  have hb : nb ≤ 8 := h1.2.1
  have hc : nc ≤ 12 := h1.2.2.2.1
  have hq : nq ≤ 12 := h1.2.2.2.2.2.2.2
  cases r
  have e : ∀ j, j ≠ 2 → j ≠ 43 + 2 * nc → j ≠ 44 + 2 * nc → upd (upd (upd f (43 + 2 * nc) w) (44 + 2 * nc) (-1)) 2 (nI (nc + 1)) j = f j := fun j q1 q2 q3 => by rw [pk_un q1, pk_un q3, pk_un q2]
  refine ⟨?_, ⟨fun k hk => ?_, fun k hk => ?_⟩, iB_c h3 hb (fun j _ _ => e j (by omega) (by omega) (by omega)), fun k hk => ?_, iD_c h5 (fun j _ _ => e j (by omega) (by omega) (by omega)), iQ_c h6 hq (fun j _ _ => e j (by omega) (by omega) (by omega)), iM_c h7 hb (fun j _ => e j (by omega) (by omega) (by omega))⟩
  · obtain ⟨q1, q2, q3, q4, q5, q6, q7, q8⟩ := h1
    refine ⟨?_, q2, pk_us, by omega, ?_, q6, ?_, q8⟩
    · rw [e _ (by omega) (by omega) (by omega)]; exact q1
    · rw [e _ (by omega) (by omega) (by omega)]; exact q5
    · rw [e _ (by omega) (by omega) (by omega)]; exact q7
  · by_cases q : k = nc
    · subst q
      exact .inl (by rw [pk_un (by omega)]; exact pk_us)
    · rw [e _ (by omega) (by omega) (by omega)]; exact h2.1 k (by omega)
  · rw [e _ (by omega) (by omega) (by omega)]; exact h2.2 k hk
  · by_cases q : k = nc
    · subst q
      rw [pk_un (by omega), pk_un (by omega), pk_us]
      have q := mIn_p hw
      exact nI_of2 (by decide) (fun z => absurd (Int32.lt_of_le_of_lt q.1 z) (by decide)) q.2
    · rw [e _ (by omega) (by omega) (by omega)]; exact h4 k (by omega)
/-- a curtain's bar changed -/
theorem xI_44 {f : Nat → Int32} {nb nc nh nq Y c : Nat} {x : Int32} (h : xI f nb nc nh nq Y) (hx : x = -1 ∨ ∃ i, i < nb ∧ x = nI i) (hcc : c < nc) : xI (upd f (44 + 2 * c) x) nb nc nh nq Y := by
  obtain ⟨h1, h2, h3, h4, h5, h6, h7⟩ := h
  have hb : nb ≤ 8 := h1.2.1
  have hc : nc ≤ 12 := h1.2.2.2.1
  have hq : nq ≤ 12 := h1.2.2.2.2.2.2.2
  refine ⟨mC_c h1 (fun j _ _ => pk_un (by omega)), ⟨fun k hk => ?_, fun k hk => ?_⟩, iB_c h3 hb (fun j _ _ => pk_un (by omega)), fun k hk => ?_, iD_c h5 (fun j _ _ => pk_un (by omega)), iQ_c h6 hq (fun j _ _ => pk_un (by omega)), iM_c h7 hb (fun j _ => pk_un (by omega))⟩
  · by_cases q : k = c
    · subst q; rw [pk_us]; exact hx
    · rw [pk_un (by omega)]; exact h2.1 k hk
  · rw [pk_un (by omega)]; exact h2.2 k hk
  · rw [pk_un (by omega)]; exact h4 k hk
theorem xHang_I {f f' : Nat → Int32} {nb nc nh nq Y : Nat} {c x a : Int32} (h : xI f nb nc nh nq Y) (r : xHang f nb nc c x = .inl (a, f')) : xI f' nb nc nh nq Y := by
  have hb : nb ≤ 8 := h.1.2.1
  have hc : nc ≤ 12 := h.1.2.2.2.1
  unfold xHang at r
  split at r
  · cases r
  rename_i h1
  split at r
  · cases r
  rename_i h2
  obtain ⟨k, hk, rfl⟩ := xAt_i (by omega) h1
  obtain ⟨i, hi, rfl⟩ := xAt_i (by omega) h2
  rw [nI_clamp (by omega), nI_clamp (by omega)] at r
  unfold xHang1 at r
  split at r
  · cases r
  split at r
  · cases r
  cases r
  exact xI_44 h (.inr ⟨i, hi, rfl⟩) hk
theorem xDrop_I {f f' : Nat → Int32} {nb nc nh nq Y : Nat} {c a : Int32} (h : xI f nb nc nh nq Y) (r : xDrop f nc c = .inl (a, f')) : xI f' nb nc nh nq Y := by
  have hc : nc ≤ 12 := h.1.2.2.2.1
  unfold xDrop at r
  split at r
  · cases r
  rename_i h1
  obtain ⟨k, hk, rfl⟩ := xAt_i (by omega) h1
  rw [nI_clamp (by omega)] at r
  unfold xDrop1 at r
  split at r
  · cases r
  split at r
  · cases r
  cases r
  exact xI_44 h (.inl rfl) hk
theorem xWts_I {f f' : Nat → Int32} {nb nc nh nq Y : Nat} {x m a : Int32} (h : xI f nb nc nh nq Y) (r : xWts f nb x m = .inl (a, f')) : xI f' nb nc nh nq Y := by
  unfold xWts at r
  split at r
  · cases r
  rename_i hx
  obtain ⟨i, hi, rfl⟩ := xAt_i (by have : nb ≤ 8 := h.1.2.1; omega) hx
  obtain ⟨h1, h2, h3, h4, h5, h6, h7⟩ := h
  have hb : nb ≤ 8 := h1.2.1
  have hc : nc ≤ 12 := h1.2.2.2.1
  have hq : nq ≤ 12 := h1.2.2.2.2.2.2.2
  rw [nI_clamp (by omega)] at r
  unfold xWts1 at r
  split at r
  · cases r
  split at r
  · cases r
  split at r
  · cases r
  rename_i hw
  split at r
  · cases r
  cases r
  refine ⟨mC_c h1 (fun j _ _ => pk_un (by omega)), mL_c h2 hc hq (fun j _ => pk_un (by omega)), fun k hk => ?_, iW_c h4 hc (fun j _ _ => pk_un (by omega)), iD_c h5 (fun j _ _ => pk_un (by omega)), iQ_c h6 hq (fun j _ _ => pk_un (by omega)), ?_⟩
  · rw [pk_un (by omega), pk_un (j := 13 + 4 * k) (by omega)]
    refine ⟨(h3 k hk).1, ?_, (h3 k hk).2.2⟩
    by_cases q : k = i
    · subst q; rw [pk_us]; exact xN_in (by decide) hw
    · rw [pk_un (by omega)]; exact (h3 k hk).2.1
  · unfold iM at *
    rw [pk_un (by omega), h7]
    exact mSum_c (fun k hk => (pk_un (by omega)).symm)
theorem xHand_I {f f' : Nat → Int32} {nb nc nh nq Y : Nat} {x s a : Int32} (h : xI f nb nc nh nq Y) (r : xHand f nh x s = .inl (a, f')) : xI f' nb nc (nh + 1) nq Y := by
  unfold xHand at r
  split at r
  · cases r
  split at r
  · cases r
  rename_i hn
  obtain ⟨h1, h2, h3, h4, h5, h6, h7⟩ := h
  have hb : nb ≤ 8 := h1.2.1
  have hc : nc ≤ 12 := h1.2.2.2.1
  have hh : nh ≤ 6 := h1.2.2.2.2.2.1
  have hq : nq ≤ 12 := h1.2.2.2.2.2.2.2
  cases r
  have e : ∀ j, j ≠ 3 → j ≠ 67 + 2 * nh → j ≠ 68 + 2 * nh → upd (upd (upd f (67 + 2 * nh) x) (68 + 2 * nh) s) 3 (nI (nh + 1)) j = f j := fun j q1 q2 q3 => by rw [pk_un q1, pk_un q3, pk_un q2]
  refine ⟨?_, mL_c h2 hc hq (fun j _ => e j (by omega) (by omega) (by omega)), iB_c h3 hb (fun j _ _ => e j (by omega) (by omega) (by omega)), iW_c h4 hc (fun j _ _ => e j (by omega) (by omega) (by omega)), iD_c h5 (fun j _ _ => e j (by omega) (by omega) (by omega)), iQ_c h6 hq (fun j _ _ => e j (by omega) (by omega) (by omega)), iM_c h7 hb (fun j _ => e j (by omega) (by omega) (by omega))⟩
  obtain ⟨q1, q2, q3, q4, q5, q6, q7, q8⟩ := h1
  refine ⟨?_, q2, ?_, q4, pk_us, by omega, ?_, q8⟩
  · rw [e _ (by omega) (by omega) (by omega)]; exact q1
  · rw [e _ (by omega) (by omega) (by omega)]; exact q3
  · rw [e _ (by omega) (by omega) (by omega)]; exact q7
theorem xMove_I {f f' : Nat → Int32} {nb nc nh nq Y : Nat} {x s a : Int32} (h : xI f nb nc nh nq Y) (r : xMove f nh x s = .inl (a, f')) : xI f' nb nc nh nq Y := by
  unfold xMove at r
  split at r
  · cases r
  rename_i hx
  split at r
  · cases r
  obtain ⟨h1, h2, h3, h4, h5, h6, h7⟩ := h
  have hb : nb ≤ 8 := h1.2.1
  have hc : nc ≤ 12 := h1.2.2.2.1
  have hh : nh ≤ 6 := h1.2.2.2.2.2.1
  have hq : nq ≤ 12 := h1.2.2.2.2.2.2.2
  obtain ⟨i, hi, rfl⟩ := xAt_i (by omega) hx
  rw [nI_clamp (by omega)] at r
  cases r
  exact ⟨mC_c h1 (fun j _ _ => pk_un (by omega)), mL_c h2 hc hq (fun j _ => pk_un (by omega)), iB_c h3 hb (fun j _ _ => pk_un (by omega)), iW_c h4 hc (fun j _ _ => pk_un (by omega)), iD_c h5 (fun j _ _ => pk_un (by omega)), iQ_c h6 hq (fun j _ _ => pk_un (by omega)), iM_c h7 hb (fun j _ => pk_un (by omega))⟩
theorem xDoor_I {f f' : Nat → Int32} {nb nc nh nq Y : Nat} {d z a : Int32} (h : xI f nb nc nh nq Y) (hz : z = 0 ∨ z = 1) (r : xDoor f d z = .inl (a, f')) : xI f' nb nc nh nq Y := by
  unfold xDoor at r
  split at r
  · cases r
  rename_i hd
  obtain ⟨k, hk, rfl⟩ := xN_in (M := 3) (by decide) hd
  obtain ⟨h1, h2, h3, h4, h5, h6, h7⟩ := h
  have hb : nb ≤ 8 := h1.2.1
  have hc : nc ≤ 12 := h1.2.2.2.1
  have hq : nq ≤ 12 := h1.2.2.2.2.2.2.2
  rw [nI_clamp (by omega)] at r
  cases r
  refine ⟨mC_c h1 (fun j _ _ => pk_un (by omega)), mL_c h2 hc hq (fun j _ => pk_un (by omega)), iB_c h3 hb (fun j _ _ => pk_un (by omega)), iW_c h4 hc (fun j _ _ => pk_un (by omega)), fun i hi => ?_, iQ_c h6 hq (fun j _ _ => pk_un (by omega)), iM_c h7 hb (fun j _ => pk_un (by omega))⟩
  by_cases q : i = k
  · subst q; rw [pk_us]
    rcases hz with rfl | rfl
    · exact ⟨0, by omega, rfl⟩
    · exact ⟨1, by omega, rfl⟩
  · rw [pk_un (by omega)]; exact h5 i hi
theorem xLift_I {f : Nat → Int32} {nb nc nh nq Y i : Nat} {y : Int32} (h : xI f nb nc nh nq Y) (hi : i < nb) (hy : xN y 20) : xI (xLift f i y) nb nc nh nq Y := by
  obtain ⟨h1, h2, h3, h4, h5, h6, h7⟩ := h
  have hb : nb ≤ 8 := h1.2.1
  have hc : nc ≤ 12 := h1.2.2.2.1
  have hq : nq ≤ 12 := h1.2.2.2.2.2.2.2
  have e : ∀ j, j ≠ 11 + 4 * i → j ≠ 14 + 4 * i → j ≠ 9 → j ≠ 10 → xLift f i y j = f j := fun j => xLift_n
  refine ⟨mC_c h1 (fun j _ _ => e j (by omega) (by omega) (by omega) (by omega)), mL_c h2 hc hq (fun j _ => e j (by omega) (by omega) (by omega) (by omega)), fun k hk => ?_, iW_c h4 hc (fun j _ _ => e j (by omega) (by omega) (by omega) (by omega)), iD_c h5 (fun j _ _ => e j (by omega) (by omega) (by omega) (by omega)), iQ_c h6 hq (fun j _ _ => e j (by omega) (by omega) (by omega) (by omega)), ?_⟩
  · rw [e (12 + 4 * k) (by omega) (by omega) (by omega) (by omega), e (13 + 4 * k) (by omega) (by omega) (by omega) (by omega)]
    refine ⟨?_, (h3 k hk).2⟩
    by_cases q : k = i
    · subst q
      have : xLift f k y (11 + 4 * k) = y := by
        unfold xLift
        rw [pk_un (by omega), pk_un (by omega), pk_un (by omega), pk_us]
      rw [this]; exact hy
    · rw [e _ (by omega) (by omega) (by omega) (by omega)]; exact (h3 k hk).1
  · unfold iM at *
    rw [mSum_upd (g := fun i => f (14 + 4 * i)) hi (fun k hk hne => e _ (by omega) (by omega) (by omega) (by omega))]
    have e1 : xLift f i y 9 = f 9 + mAbs (y - f (11 + 4 * i)) := by
      unfold xLift
      rw [pk_un (by omega), pk_us]
    have e2 : xLift f i y (14 + 4 * i) = f (14 + 4 * i) + mAbs (y - f (11 + 4 * i)) := by
      unfold xLift
      rw [pk_un (by omega), pk_un (by omega), pk_us]
    rw [e1]
    simp only [e2]
    rw [h7, ← Int32.add_assoc, Int32.sub_add_cancel]
theorem xFly_I {f f' : Nat → Int32} {nb nc nh nq Y : Nat} {x y a : Int32} (h : xI f nb nc nh nq Y) (r : xFly f nb nc nh x y = .inl (a, f')) : xI f' nb nc nh nq Y := by
  unfold xFly at r
  split at r
  · cases r
  rename_i hx
  have hb : nb ≤ 8 := h.1.2.1
  obtain ⟨i, hi, rfl⟩ := xAt_i (by omega) hx
  rw [nI_clamp (by omega)] at r
  unfold xFly1 at r
  split at r
  · cases r
  rename_i hy
  split at r
  · cases r
    exact xLift_I h hi (xN_in (by decide) hy)
  · cases r
theorem xGo_I {f f' : Nat → Int32} {nb nc nh nq Y : Nat} {a : Int32} (h : xI f nb nc nh nq Y) (r : xGo f nc nh nq = .inl (a, f')) : xI f' nb nc nh nq Y := by
  obtain ⟨k, hk, -, -, -, -, rfl⟩ := xGo_l r
  have hb : nb ≤ 8 := h.1.2.1
  obtain ⟨i, hi, e⟩ := h.2.1.2 k hk
  rw [e, nI_clamp (by omega)]
  refine xI_c (xLift_I h hi (h.2.2.2.2.2.1.2 k hk).2.1) (fun j hj => ?_)
  rw [pk_un (by omega), pk_un (by omega)]
theorem xDo_I {f f' : Nat → Int32} {nb nc nh nq Y j : Nat} {a b v : Int32} (h : xI f nb nc nh nq Y) (r : xDo f nb nc nh nq j a b = .inl (v, f')) : xI f' nb nc nh nq (Y + 9) := by
  unfold xDo at r
  split at r
  · exact xI_Y (xHang_I h r) (by omega)
  · exact xI_Y (xDrop_I h r) (by omega)
  · exact xI_Y (xWts_I h r) (by omega)
  · exact xI_Y (xWts_I h r) (by omega)
  · exact xI_Y (xFly_I h r) (by omega)
  · exact xI_Y (xGo_I h r) (by omega)
  · exact xI_Y (xDoor_I h (.inr rfl) r) (by omega)
  · exact xI_Y (xDoor_I h (.inl rfl) r) (by omega)
  · exact xYear_I h r
theorem x0_I {Y : Nat} : xI x0 0 0 0 0 Y := by
  refine ⟨⟨rfl, by omega, rfl, by omega, rfl, by omega, rfl, by omega⟩, ⟨fun k hk => by omega, fun k hk => by omega⟩, fun i hi => by omega, fun k hk => by omega, fun k hk => ⟨0, by omega, ?_⟩, ⟨fun i j _ hj => by omega, fun k hk => by omega⟩, rfl⟩
  unfold x0
  rw [if_neg (by omega), if_neg (by omega), if_neg (by omega)]; rfl
