/-! ===== A TEXT CARRIED OUT ===== -/
def xDo (f : Nat → Int32) (nb nc nh nq j : Nat) (a b : Int32) : xR := match j with
  | 0 => xHang f nb nc a b
  | 1 => xDrop f nc a
  | 2 => xWts f nb a b
  | 3 => xWts f nb a (-b)
  | 4 => xFly f nb nc nh a b
  | 5 => xGo f nc nh nq
  | 6 => xDoor f a 1
  | 7 => xDoor f a 0
  | _ => xYear f nb nc 1
theorem xDo_ok {f : Nat → Int32} {nb nc nh nq j : Nat} {a b : Int32} : xOk (xDo f nb nc nh nq j a b) := by
  unfold xDo
  split
  · exact xHang_ok
  · exact xDrop_ok
  · exact xWts_ok
  · exact xWts_ok
  · exact xFly_ok
  · exact xGo_ok
  · exact xDoor_ok
  · exact xDoor_ok
  · exact xYear_ok
/-- the reader's loop -/
def rdL (t : Nat → Int32) (n : Nat) : Nat → Nat × Int32 × Nat × (Nat → Int32) → Nat × Int32 × Nat × (Nat → Int32)
  | 0, s => s
  | f + 1, s => if hrP t n 59 59 s.1 s.2.1 = 0 then s else rdL t n f (riP t n (sgP t n 32 32 (s.1 + 1) s.2.1).1 (sgP t n 32 32 (s.1 + 1) s.2.1).2.1 s.2.2.1 s.2.2.2)
theorem rdL_0 {t : Nat → Int32} {n f : Nat} {s : Nat × Int32 × Nat × (Nat → Int32)} (h : hrP t n 59 59 s.1 s.2.1 = 0) : rdL t n f s = s := by
  cases f with
  | zero => rfl
  | succ f => exact if_pos h
theorem rdL_s {t : Nat → Int32} {n f : Nat} {s : Nat × Int32 × Nat × (Nat → Int32)} (h : hrP t n 59 59 s.1 s.2.1 ≠ 0) : rdL t n (f + 1) s = rdL t n f (riP t n (sgP t n 32 32 (s.1 + 1) s.2.1).1 (sgP t n 32 32 (s.1 + 1) s.2.1).2.1 s.2.2.1 s.2.2.2) := if_neg h
theorem sgP_n {t : Nat → Int32} {n : Nat} {lo hi : Int32} {p : Nat} {w : Int32} (h : p ≤ n) : (sgP t n lo hi p w).1 ≤ n ∧ p ≤ (sgP t n lo hi p w).1 := by
  by_cases q : hrP t n lo hi p w = 0
  · rw [sgP_t q]; exact ⟨h, Nat.le_refl _⟩
  · rw [sgP_f q]; have := (hrP_p q).2.1; exact ⟨this, Nat.le_succ _⟩
theorem nmP_n {t : Nat → Int32} {n p : Nat} {w : Int32} (h : p ≤ n) : (nmP t n p w).1 ≤ n ∧ p ≤ (nmP t n p w).1 := by
  have a := sgP_n (t := t) (lo := 48) (hi := 57) (w := w) h
  unfold nmP; split
  · have b := sgP_n (t := t) (lo := 48) (hi := 57) (w := (sgP t n 48 57 p w).2.1) a.1
    exact ⟨b.1, Nat.le_trans a.2 b.2⟩
  · exact a
theorem wdP_n {t : Nat → Int32} {n p : Nat} (h : p ≤ n) : ∀ {k : Nat}, p + (wdP t n p k).2 ≤ n := by
  intro k
  induction k with
  | zero => exact h
  | succ k ih =>
    have b := xAl_n (t := t) (n := n) (l := sTx (9 + k)) h
    rw [wdP_s]
    show p + max _ _ ≤ n
    omega
theorem wdP_p {t : Nat → Int32} {n p : Nat} : ∀ {k : Nat}, k ≤ 9 → (wdP t n p k).1 = -1 ∨ 2 ≤ (wdP t n p k).2 := by
  intro k
  induction k with
  | zero => intro _; exact .inl rfl
  | succ k ih =>
    intro hk
    have c : 2 ≤ (sTx (9 + k)).length := by
      have : k = 0 ∨ k = 1 ∨ k = 2 ∨ k = 3 ∨ k = 4 ∨ k = 5 ∨ k = 6 ∨ k = 7 ∨ k = 8 := by omega
      rcases this with rfl | rfl | rfl | rfl | rfl | rfl | rfl | rfl | rfl <;> decide
    rw [wdP_s]
    by_cases q : xAl t n (sTx (9 + k)) p = (sTx (9 + k)).length
    · right; show 2 ≤ max _ _; omega
    · simp only [if_neg q]
      rcases ih (by omega) with h | h
      · exact .inl h
      · right; omega
theorem dgR_n {t : Nat → Int32} {n : Nat} {r : Nat × Int32 × Int32} (h : r.1 ≤ n) : (dgR t n r).1 ≤ n ∧ r.1 ≤ (dgR t n r).1 := sgP_n h
theorem blR_n {t : Nat → Int32} {n : Nat} {r : Nat × Int32 × Int32} (h : r.1 ≤ n) : (blR t n r).1 ≤ n ∧ r.1 ≤ (blR t n r).1 := sgP_n h
theorem nmR_n {t : Nat → Int32} {n : Nat} {r : Nat × Int32 × Int32} (h : r.1 ≤ n) : (nmR t n r).1 ≤ n ∧ r.1 ≤ (nmR t n r).1 := nmP_n h
theorem dgR_w {t : Nat → Int32} {n : Nat} {r : Nat × Int32 × Int32} : (dgR t n r).2.1 = 0 ∨ (dgR t n r).2.1 = 1 := sgP_w
theorem nmR_w {t : Nat → Int32} {n : Nat} {r : Nat × Int32 × Int32} : (nmR t n r).2.1 = 0 ∨ (nmR t n r).2.1 = 1 := nmP_w
theorem rkB_n {m n p : Nat} {it : Nat → Int32} {r : Nat × Int32 × Int32} (h : r.1 ≤ n ∧ p ≤ r.1) : (rkB m it r).1 ≤ n ∧ p ≤ (rkB m it r).1 ∧ (rkB m it r).2.2.1 = m + 1 := ⟨h.1, h.2, rfl⟩
theorem rkC_n {m n p : Nat} {it : Nat → Int32} {a : Int32} {r : Nat × Int32 × Int32} (h : r.1 ≤ n ∧ p ≤ r.1) : (rkC m it a r).1 ≤ n ∧ p ≤ (rkC m it a r).1 ∧ (rkC m it a r).2.2.1 = m + 1 := ⟨h.1, h.2, rfl⟩
theorem riK_n {t : Nat → Int32} {n p m k : Nat} {it : Nat → Int32} (h : p ≤ n) (hk : k < 9) : (riK t n p m it k).1 ≤ n ∧ p ≤ (riK t n p m it k).1 ∧ (riK t n p m it k).2.2.1 = m + 1 := by
  have d := sgP_n (t := t) (lo := 48) (hi := 57) (w := 0) h
  have e := nmP_n (t := t) (w := 0) h
  have d2 := blR_n (t := t) (r := sgP t n 48 57 p 0) d.1
  have e2 := blR_n (t := t) (r := nmP t n p 0) e.1
  have d3 := nmR_n (t := t) d2.1
  have e3 := dgR_n (t := t) e2.1
  have h2 : ((p, 0, 0) : Nat × Int32 × Int32).1 ≤ n ∧ p ≤ ((p, 0, 0) : Nat × Int32 × Int32).1 := ⟨h, Nat.le_refl _⟩
  have d4 := And.intro d3.1 (Nat.le_trans d.2 (Nat.le_trans d2.2 d3.2))
  have e4 := And.intro e3.1 (Nat.le_trans e.2 (Nat.le_trans e2.2 e3.2))
  have : k = 0 ∨ k = 1 ∨ k = 2 ∨ k = 3 ∨ k = 4 ∨ k = 5 ∨ k = 6 ∨ k = 7 ∨ k = 8 := by omega
  rcases this with rfl | rfl | rfl | rfl | rfl | rfl | rfl | rfl | rfl
  · exact rkC_n e4
  · exact rkB_n e
  · exact rkC_n d4
  · exact rkC_n d4
  · exact rkC_n d4
  · exact rkB_n h2
  · exact rkB_n d
  · exact rkB_n d
  · exact rkB_n h2
theorem rkB_w {m : Nat} {it : Nat → Int32} {r : Nat × Int32 × Int32} (h : r.2.1 = 0 ∨ r.2.1 = 1) : (rkB m it r).2.1 = 0 ∨ (rkB m it r).2.1 = 1 := h
theorem rkC_w {m : Nat} {it : Nat → Int32} {a : Int32} {r : Nat × Int32 × Int32} (h : r.2.1 = 0 ∨ r.2.1 = 1) : (rkC m it a r).2.1 = 0 ∨ (rkC m it a r).2.1 = 1 := h
theorem riK_w {t : Nat → Int32} {n p m k : Nat} {it : Nat → Int32} (hk : k < 9) : (riK t n p m it k).2.1 = 0 ∨ (riK t n p m it k).2.1 = 1 := by
  have a1 := dgR_w (t := t) (n := n) (r := blR t n (nmP t n p 0))
  have a2 := nmR_w (t := t) (n := n) (r := blR t n (sgP t n 48 57 p 0))
  have a3 := nmP_w (t := t) (n := n) (p := p) (w := 0)
  have a4 := sgP_w (t := t) (n := n) (lo := 48) (hi := 57) (p := p) (w := 0)
  have a5 : ((p, 0, 0) : Nat × Int32 × Int32).2.1 = 0 ∨ ((p, 0, 0) : Nat × Int32 × Int32).2.1 = 1 := .inl rfl
  have : k = 0 ∨ k = 1 ∨ k = 2 ∨ k = 3 ∨ k = 4 ∨ k = 5 ∨ k = 6 ∨ k = 7 ∨ k = 8 := by omega
  rcases this with rfl | rfl | rfl | rfl | rfl | rfl | rfl | rfl | rfl
  · exact rkC_w a1
  · exact rkB_w a3
  · exact rkC_w a2
  · exact rkC_w a2
  · exact rkC_w a2
  · exact rkB_w a5
  · exact rkB_w a4
  · exact rkB_w a4
  · exact rkB_w a5
/-- what an item leaves: the place goes on within the text; the items are at most as many as the signs -/
theorem riP_n {t : Nat → Int32} {n p m : Nat} {w : Int32} {it : Nat → Int32} (h : p ≤ n) (hm : m ≤ p) : (riP t n p w m it).1 ≤ n ∧ p ≤ (riP t n p w m it).1 ∧ (riP t n p w m it).2.2.1 ≤ (riP t n p w m it).1 := by
  by_cases q : w ≠ 0
  · rw [riP_w q]; exact ⟨h, Nat.le_refl _, hm⟩
  · have q0 : w = 0 := Classical.not_not.mp q
    subst q0
    have a := wdP_n (t := t) h (k := 9)
    rcases wdP_c (t := t) (n := n) (p := p) (k := 9) with c | ⟨j, hj, c⟩
    · rw [riP_0 c]; exact ⟨a, by show p ≤ p + _; omega, by show m ≤ p + _; omega⟩
    · rw [riP_k c hj]
      have b := riK_n (t := t) (m := m) (it := it) a hj
      refine ⟨b.1, by omega, ?_⟩
      rcases wdP_p (t := t) (n := n) (p := p) (k := 9) (Nat.le_refl _) with z | z
      · rw [z] at c; exact absurd (c ▸ nI_pos' (n := j) (by omega) : (0 : Int32) ≤ -1) (by decide)
      · rw [b.2.2]; omega
theorem riP_w01 {t : Nat → Int32} {n p m : Nat} {w : Int32} {it : Nat → Int32} : (riP t n p w m it).2.1 = 0 ∨ (riP t n p w m it).2.1 = 1 := by
  by_cases q : w ≠ 0
  · rw [riP_w q]; exact .inr rfl
  · have q0 : w = 0 := Classical.not_not.mp q
    subst q0
    rcases wdP_c (t := t) (n := n) (p := p) (k := 9) with c | ⟨j, hj, c⟩
    · rw [riP_0 c]; exact .inr rfl
    · rw [riP_k c hj]
      exact riK_w hj
/-- the items from place k on, d of them: all done, or the place of the one refused -/
def xSeq (nb nc nh nq : Nat) (it : Nat → Int32) : Nat → Nat → (Nat → Int32) → (Nat → Int32) ⊕ (Nat × Nat × Option (Int32 × Int32))
  | 0, _, f => .inl f
  | d + 1, k, f => match xDo f nb nc nh nq (it (3 * k)).toNatClampNeg (it (1 + 3 * k)) (it (2 + 3 * k)) with
    | .inl (_, f') => xSeq nb nc nh nq it d (k + 1) f'
    | .inr (p, e) => .inr (k, p, e)
theorem xSeq_l {nb nc nh nq d k : Nat} {it f f' : Nat → Int32} {a : Int32} (h : xDo f nb nc nh nq (it (3 * k)).toNatClampNeg (it (1 + 3 * k)) (it (2 + 3 * k)) = .inl (a, f')) : xSeq nb nc nh nq it (d + 1) k f = xSeq nb nc nh nq it d (k + 1) f' := by
  simp only [xSeq, h]
theorem xSeq_r {nb nc nh nq d k p : Nat} {it f : Nat → Int32} {e : Option (Int32 × Int32)} (h : xDo f nb nc nh nq (it (3 * k)).toNatClampNeg (it (1 + 3 * k)) (it (2 + 3 * k)) = .inr (p, e)) : xSeq nb nc nh nq it (d + 1) k f = .inr (k, p, e) := by
  simp only [xSeq, h]
theorem xRes_C {f f' : Nat → Int32} {nb nc nh nq : Nat} (hC : mC f nb nc nh nq) (h : ∀ j, 1 ≤ j → j ≤ 4 → f' j = f j) : mC f' nb nc nh nq := by
  unfold mC
  rw [h 1 (by decide) (by decide), h 2 (by decide) (by decide), h 3 (by decide) (by decide), h 4 (by decide) (by decide)]
  exact hC
theorem xRes_L {f f' : Nat → Int32} {nb nc nq : Nat} (hL : mL f nb nc nq) (hc : nc ≤ 12) (hq : nq ≤ 12) (h : ∀ j, 43 ≤ j → f' j = f j) : mL f' nb nc nq := by
  refine ⟨fun j hj => ?_, fun j hj => ?_⟩
  · rw [h _ (by omega)]; exact hL.1 j hj
  · rw [h _ (by omega)]; exact hL.2 j hj
theorem xLift_C {f : Nat → Int32} {i : Nat} {y : Int32} {j : Nat} (hi : i < 8) (h : j < 9 ∨ 43 ≤ j) : xLift f i y j = f j := xLift_n (by omega) (by omega) (by omega) (by omega)
/-- what the items' changes leave of the counts and the links -/
theorem xDo_C {f f' : Nat → Int32} {nb nc nh nq j : Nat} {a b r : Int32} (hC : mC f nb nc nh nq) (hL : mL f nb nc nq) (h : xDo f nb nc nh nq j a b = .inl (r, f')) : mC f' nb nc nh nq ∧ mL f' nb nc nq ∧ (∀ i, 131 ≤ i → f' i = f i) := by
  obtain ⟨h1, hb, h2, hc, h3, hh, h4, hq⟩ := hC
  have hC : mC f nb nc nh nq := ⟨h1, hb, h2, hc, h3, hh, h4, hq⟩
  have hang : ∀ a b, xHang f nb nc a b = .inl (r, f') → mC f' nb nc nh nq ∧ mL f' nb nc nq ∧ (∀ i, 131 ≤ i → f' i = f i) := by
    intro a b h
    unfold xHang at h
    split at h
    · cases h
    · split at h
      · cases h
      · rename_i q1 q2
        obtain ⟨c, hc1, rfl⟩ := xAt_i (by omega) q1
        obtain ⟨i, hi, rfl⟩ := xAt_i (by omega) q2
        rw [nI_clamp (by omega), nI_clamp (by omega)] at h
        unfold xHang1 at h
        split at h
        · cases h
        · split at h
          · cases h
          · cases h
            refine ⟨xRes_C hC (fun j _ _ => pk_un (by omega)), ⟨fun k hk => ?_, fun k hk => ?_⟩, fun k hk => pk_un (by omega)⟩
            · by_cases q : k = c
              · subst q; rw [pk_us]; exact .inr ⟨i, hi, rfl⟩
              · rw [pk_un (by omega)]; exact hL.1 k hk
            · rw [pk_un (by omega)]; exact hL.2 k hk
  have drop : ∀ a, xDrop f nc a = .inl (r, f') → mC f' nb nc nh nq ∧ mL f' nb nc nq ∧ (∀ i, 131 ≤ i → f' i = f i) := by
    intro a h
    unfold xDrop at h
    split at h
    · cases h
    · rename_i q1
      obtain ⟨c, hc1, rfl⟩ := xAt_i (by omega) q1
      rw [nI_clamp (by omega)] at h
      unfold xDrop1 at h
      split at h
      · cases h
      · split at h
        · cases h
        · cases h
          refine ⟨xRes_C hC (fun j _ _ => pk_un (by omega)), ⟨fun k hk => ?_, fun k hk => ?_⟩, fun k hk => pk_un (by omega)⟩
          · by_cases q : k = c
            · subst q; rw [pk_us]; exact .inl rfl
            · rw [pk_un (by omega)]; exact hL.1 k hk
          · rw [pk_un (by omega)]; exact hL.2 k hk
  have wts : ∀ a b, xWts f nb a b = .inl (r, f') → mC f' nb nc nh nq ∧ mL f' nb nc nq ∧ (∀ i, 131 ≤ i → f' i = f i) := by
    intro a b h
    unfold xWts at h
    split at h
    · cases h
    · rename_i q1
      obtain ⟨c, hc1, rfl⟩ := xAt_i (by omega) q1
      rw [nI_clamp (by omega)] at h
      unfold xWts1 at h
      split at h
      · cases h
      · split at h
        · cases h
        · split at h
          · cases h
          · split at h
            · cases h
            · cases h
              exact ⟨xRes_C hC (fun j _ _ => pk_un (by omega)), xRes_L hL hc hq (fun j _ => pk_un (by omega)), fun k hk => pk_un (by omega)⟩
  have fly : ∀ a b, xFly f nb nc nh a b = .inl (r, f') → mC f' nb nc nh nq ∧ mL f' nb nc nq ∧ (∀ i, 131 ≤ i → f' i = f i) := by
    intro a b h
    unfold xFly at h
    split at h
    · cases h
    · rename_i q1
      obtain ⟨c, hc1, rfl⟩ := xAt_i (by omega) q1
      rw [nI_clamp (by omega)] at h
      unfold xFly1 at h
      split at h
      · cases h
      · split at h
        · cases h
          exact ⟨xRes_C hC (fun j _ _ => xLift_C (by omega) (by omega)), xRes_L hL hc hq (fun j _ => xLift_C (by omega) (by omega)), fun k hk => xLift_C (by omega) (by omega)⟩
        · cases h
  have door : ∀ a b, xDoor f a b = .inl (r, f') → mC f' nb nc nh nq ∧ mL f' nb nc nq ∧ (∀ i, 131 ≤ i → f' i = f i) := by
    intro a b h
    unfold xDoor at h
    split at h
    · cases h
    · rename_i q1
      obtain ⟨c, hc1, rfl⟩ := xAt_i (n := 4) (by omega) q1
      rw [nI_clamp (by omega)] at h
      cases h
      refine ⟨xRes_C hC (fun j _ _ => pk_un (by omega)), ⟨fun k hk => ?_, fun k hk => ?_⟩, fun k hk => pk_un (by omega)⟩
      · rw [pk_un (by omega)]; exact hL.1 k hk
      · rw [pk_un (by omega)]; exact hL.2 k hk
  have year : ∀ y, xYear f nb nc y = .inl (r, f') → mC f' nb nc nh nq ∧ mL f' nb nc nq ∧ (∀ i, 131 ≤ i → f' i = f i) := by
    intro y h
    unfold xYear at h
    split at h
    · cases h
    · cases h
      exact ⟨xRes_C hC (fun j _ _ => by rw [pk_un (by omega), xYrs_n (by omega)]), xRes_L hL hc hq (fun j _ => by rw [pk_un (by omega), xYrs_n (by omega)]), fun k hk => by rw [pk_un (by omega), xYrs_n (by omega)]⟩
  unfold xDo at h
  split at h
  · exact hang _ _ h
  · exact drop _ h
  · exact wts _ _ h
  · exact wts _ _ h
  · exact fly _ _ h
  · have k := (xGo_keep hL hb h).1
    exact ⟨xRes_C hC (fun j _ _ => k j (by omega)), xRes_L hL hc hq (fun j _ => k j (by omega)), fun i hi => k i (by omega)⟩
  · exact door _ _ h
  · exact door _ _ h
  · exact year _ h
def rdPost (K : gK) (h : AH) (o : Nat) (L : Nat → Nat) (IV : Nat → Int32) (BV : Nat → Nat → Int32) (np m : Nat) (r : (Nat → Int32) ⊕ (Nat × Nat × Option (Int32 × Int32))) : gRes → AH → Prop := match r with
  | .inl f' => pR (.int (nI m)) (mO K h o L (upd IV 6 (nI (xNp np))) (mu (mu BV 0 f') 5 (xPush (BV 5) (BV 1) np)))
  | .inr (k, p, e) => pR (.int 0) (mO K h o L (upd (upd (xIv IV (.inr (p, e))) 18 (nI k)) 7 2) BV)
def rdIV (iv : Nat → Int32) (S : Nat × Int32 × Nat × (Nat → Int32)) : Nat → Int32 := upd (upd (upd (pIv iv S.1 S.2.1 S.2.2.1) 16 0) 14 0) 7 0
def rdBV (av : Nat → Nat → Int32) (S : Nat × Int32 × Nat × (Nat → Int32)) : Nat → Nat → Int32 := mu (mu av 19 S.2.2.2) 1 (av 0)
theorem rdIV_20 {iv : Nat → Int32} {S : Nat × Int32 × Nat × (Nat → Int32)} : rdIV iv S 20 = nI S.2.2.1 := by
  unfold rdIV
  rw [pk_un (by decide), pk_un (by decide), pk_un (by decide), pIv_20]
theorem rdIV_6 {iv : Nat → Int32} {S : Nat × Int32 × Nat × (Nat → Int32)} : rdIV iv S 6 = iv 6 := by
  unfold rdIV
  rw [pk_un (by decide), pk_un (by decide), pk_un (by decide), pIv_n (by decide) (by decide) (by decide)]
theorem rdIV_7 {iv : Nat → Int32} {S : Nat × Int32 × Nat × (Nat → Int32)} : rdIV iv S 7 = 0 := pk_us
theorem xIv_20 {iv : Nat → Int32} {p : Nat} {d : Option (Int32 × Int32)} : xIv iv (.inr (p, d)) 20 = iv 20 := by
  rcases d with _ | ⟨a, b⟩
  · exact pk_un (by decide)
  · show upd (upd (upd iv 7 (nI p)) 8 a) 9 b 20 = _
    rw [pk_un (by decide), pk_un (by decide)]; exact pk_un (by decide)
