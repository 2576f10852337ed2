/-! ===== THE CLASS's NUMBERS ===== -/
theorem mAbs_sub {a b : Nat} (ha : a < 2 ^ 30) (hb : b < 2 ^ 30) : mAbs (nI a - nI b) = nI (a - b + (b - a)) := by
  unfold mAbs
  by_cases q : a < b
  · rw [if_pos (pk_sneg hb q), show a - b + (b - a) = b - a by omega, ← pk_sub (by omega : a ≤ b)]
    rw [Int32.neg_sub]
  · rw [pk_sub (by omega), if_neg (nI_pos (by omega)), show a - b + (b - a) = a - b by omega]
theorem mMax_sub {a b : Nat} (ha : a < 2 ^ 30) (hb : b < 2 ^ 30) : mMax 0 (nI a - nI b) = nI (a - b) := by
  unfold mMax
  by_cases q : b < a
  · rw [pk_sub (by omega), if_pos]
    exact nI_0 ▸ nI_lt (by omega) (by omega)
  · rw [if_neg, show a - b = 0 by omega, nI_0]
    by_cases r : a = b
    · subst r; rw [Int32.sub_self]; decide
    · exact fun z => Int32.lt_asymm z (pk_sneg hb (by omega))
/-- small numbers -/
def xN (x : Int32) (M : Nat) : Prop := ∃ j, j ≤ M ∧ x = nI j
theorem mSum_b {g : Nat → Int32} {M n : Nat} (h : ∀ k, k < n → xN (g k) M) : ∃ s, s ≤ M * n ∧ mSum g n = nI s := by
  induction n with
  | zero => exact ⟨0, by omega, nI_0.symm⟩
  | succ n ih =>
    obtain ⟨s, hs, e⟩ := ih (fun k hk => h k (by omega))
    obtain ⟨j, hj, e2⟩ := h n (by omega)
    refine ⟨s + j, ?_, by rw [mSum_s, e, e2, nI_add]⟩
    rw [Nat.mul_succ]; omega
theorem mLoad_b {f : Nat → Int32} {n : Nat} {x : Int32} (h : ∀ k, k < n → xN (f (43 + 2 * k)) 90) (hn : n ≤ 12) : xN (mLoad f n x) 1080 := by
  obtain ⟨s, hs, e⟩ := mSum_b (M := 90) (n := n) (g := fun k => if f (44 + 2 * k) = x then f (43 + 2 * k) else 0) (fun k hk => by
    show xN (if _ then _ else _) 90
    split
    · exact h k hk
    · exact ⟨0, by omega, nI_0.symm⟩)
  exact ⟨s, by omega, e⟩
theorem mDoors_b {f : Nat → Int32} (h : ∀ k, k < 4 → xN (f (79 + k)) 1) : xN (mDoors f) 4 := by
  obtain ⟨s, hs, e⟩ := mSum_b (M := 1) (n := 4) (g := fun k => f (79 + k)) h
  exact ⟨s, by omega, e⟩
theorem nI_10 {w : Nat} : (10 : Int32) * nI w = nI (10 * w) := pk_mul 10 w
theorem nI_25 {w : Nat} : (25 : Int32) * nI w = nI (25 * w) := pk_mul 25 w
theorem mBears_v {f : Nat → Int32} {i y : Nat} (hy : f (13 + 4 * i) = nI y) (h : y < 2 ^ 20) : mBears f i = nI (300 - 25 * y) := by
  unfold mBears
  rw [hy, nI_25]
  exact mMax_sub (a := 300) (by decide) (by omega)
/-- what a bar's rope has too much -/
theorem mLacks_v {f : Nat → Int32} {nc i y w l : Nat} (hy : f (13 + 4 * i) = nI y) (hyb : y < 2 ^ 20) (hw : f (12 + 4 * i) = nI w) (hwb : w ≤ 20) (hl : mLoad f nc (nI i) = nI l) (hlb : l ≤ 1080) : mLacks f nc i = nI (l + 10 * w - (300 - 25 * y)) := by
  unfold mLacks
  rw [mBears_v hy hyb, hw, hl, nI_10, nI_add]
  exact mMax_sub (by omega) (by omega)
/-- the class's question: is the rope too weak? -/
theorem lacks_iff {f : Nat → Int32} {nc i : Nat} (hy : xN (f (13 + 4 * i)) 1000000) (hw : xN (f (12 + 4 * i)) 20) (hl : xN (mLoad f nc (nI i)) 1080) : (0 < mLacks f nc i ↔ mBears f i < mLoad f nc (nI i) + 10 * f (12 + 4 * i)) ∧ (0 < mLacks f nc i → mLoad f nc (nI i) + 10 * f (12 + 4 * i) - mBears f i = mLacks f nc i) := by
  obtain ⟨y, hy1, hy2⟩ := hy
  obtain ⟨w, hw1, hw2⟩ := hw
  obtain ⟨l, hl1, hl2⟩ := hl
  rw [mLacks_v hy2 (by omega) hw2 hw1 hl2 hl1, mBears_v hy2 (by omega), hw2, hl2, nI_10, nI_add, ← nI_0]
  rw [nI_ltI (by omega) (by omega), nI_ltI (by omega) (by omega)]
  refine ⟨by omega, fun z => ?_⟩
  rw [pk_sub (by omega)]
/-! noise, counted -/
def nzM (k d : Nat) : Nat → Nat
  | 0 => 0
  | n + 1 => nzM k d n + (if (n + 1) % k = 0 then d else 0)
theorem nzM_4 {n : Nat} : nzM 4 1 n = n / 4 := by
  induction n with
  | zero => rfl
  | succ n ih => simp only [nzM, ih]; split <;> omega
theorem nzM_3 {n : Nat} : nzM 3 1 n = n / 3 := by
  induction n with
  | zero => rfl
  | succ n ih => simp only [nzM, ih]; split <;> omega
theorem mLoud_v {f : Nat → Int32} {i a b y d : Nat} (ha : f (11 + 4 * i) = nI a) (hb : a ≤ 20) (hby : b ≤ 20) (hy : f (13 + 4 * i) = nI y) (hyb : y ≤ 1000000) (hd : mDoors f = nI d) : mLoud f i (nI b) = nI ((b - a + (a - b)) / 4 + y / 3 + 2 * d) := by
  unfold mLoud
  rw [ha, hy, hd, mAbs_sub (by omega) (by omega), show (4 : Int32) = nI 4 from rfl, show (3 : Int32) = nI 3 from rfl, show (2 : Int32) = nI 2 from rfl, pk_div (by omega) (by omega) (by omega), pk_div (by omega) (by omega) (by omega), pk_mul, nI_add, nI_add]
/-! a curtain hung and taken: what the bars carry -/
theorem mSum_upd {g g' : Nat → Int32} {n c : Nat} (hc : c < n) (h : ∀ k, k < n → k ≠ c → g' k = g k) : mSum g' n = mSum g n - g c + g' c := by
  induction n with
  | zero => omega
  | succ n ih =>
    rw [mSum_s, mSum_s]
    by_cases q : c = n
    · subst q
      rw [mSum_c (f := g') (g := g) (fun k hk => h k (by omega) (by omega))]
      simp [Int32.add_sub_cancel]
    · rw [ih (by omega) (fun k hk => h k (by omega)), h n (by omega) (fun z => q z.symm)]
      simp only [Int32.sub_eq_add_neg, Int32.add_assoc]
      congr 1
      rw [Int32.add_comm (g' c) (g n), ← Int32.add_assoc, ← Int32.add_assoc, Int32.add_comm (-g c) (g n)]
theorem upd44 {f : Nat → Int32} {c k : Nat} {x : Int32} : upd f (44 + 2 * c) x (43 + 2 * k) = f (43 + 2 * k) := pk_un (by omega)
theorem mLoad_h {f : Nat → Int32} {nc c : Nat} {x y : Int32} (hc : c < nc) : mLoad (upd f (44 + 2 * c) x) nc y = mLoad f nc y - (if f (44 + 2 * c) = y then f (43 + 2 * c) else 0) + (if x = y then f (43 + 2 * c) else 0) := by
  unfold mLoad
  rw [mSum_upd (g := fun k => if f (44 + 2 * k) = y then f (43 + 2 * k) else 0) hc (fun k _ hne => by
    show (if _ then _ else _) = (if _ then _ else _)
    rw [pk_un (by omega), upd44])]
  simp only [pk_us, upd44]
theorem mCnt_h {f : Nat → Int32} {nc c : Nat} {x y : Int32} (hc : c < nc) : mCnt (upd f (44 + 2 * c) x) nc y = mCnt f nc y - (if f (44 + 2 * c) = y then 1 else 0) + (if x = y then 1 else 0) := by
  unfold mCnt
  rw [mSum_upd (g := fun k => if f (44 + 2 * k) = y then 1 else 0) hc (fun k _ hne => by
    show (if _ then _ else _) = (if _ then _ else _)
    rw [pk_un (by omega)])]
  simp only [pk_us]
theorem nI_m1 {k : Nat} (h : k < 2 ^ 31) : ¬ (-1 : Int32) = nI k := fun z => absurd (z ▸ nI_pos' h : (0 : Int32) ≤ -1) (by decide)
/-! sums over bars and over curtains -/
theorem mSum_add {g g' : Nat → Int32} {n : Nat} : mSum (fun k => g k + g' k) n = mSum g n + mSum g' n := by
  induction n with
  | zero => rfl
  | succ n ih =>
    simp only [mSum_s, ih, Int32.add_assoc]
    congr 1
    rw [← Int32.add_assoc, ← Int32.add_assoc, Int32.add_comm (mSum g' n) (g n)]
theorem mSum_0 {n : Nat} : mSum (fun _ => 0) n = 0 := by
  induction n with
  | zero => rfl
  | succ n ih => rw [mSum_s, ih]; rfl
theorem mSum_1 {n c : Nat} {x : Int32} : mSum (fun k => if k = c then x else 0) n = if c < n then x else 0 := by
  induction n with
  | zero => rw [if_neg (by omega)]; rfl
  | succ n ih =>
    rw [mSum_s, ih]
    by_cases q : n = c
    · subst q; rw [if_neg (by omega), if_pos rfl, if_pos (by omega)]; simp
    · rw [if_neg q]
      by_cases r : c < n
      · rw [if_pos r, if_pos (by omega)]; simp
      · rw [if_neg r, if_neg (by omega)]; rfl
/-- the curtains' sum, bar by bar -/
theorem sum_bars {f : Nat → Int32} {g : Nat → Int32} {nb nc : Nat} (hb : nb ≤ 8) (h : ∀ k, k < nc → f (44 + 2 * k) = -1 ∨ ∃ i, i < nb ∧ f (44 + 2 * k) = nI i) : mSum (fun i => mSum (fun k => if f (44 + 2 * k) = nI i then g k else 0) nc) nb = mSum (fun k => if f (44 + 2 * k) < 0 then 0 else g k) nc := by
  induction nc with
  | zero => exact mSum_0
  | succ n ih =>
    simp only [mSum_s]
    rw [mSum_add, ih (fun k hk => h k (by omega))]
    congr 1
    rcases h n (by omega) with q | ⟨i, hi, q⟩
    · rw [q, if_pos (by decide)]
      rw [mSum_c (g := fun _ => 0) (fun k hk => if_neg (nI_m1 (by omega))), mSum_0]
    · rw [q, if_neg (nI_pos (by omega))]
      rw [mSum_c (g := fun k => if k = i then g n else 0) (fun k hk => by
        show (if _ then _ else _) = (if _ then _ else _)
        by_cases r : k = i
        · subst r; rw [if_pos rfl, if_pos rfl]
        · rw [if_neg r, if_neg (fun z => r ((nI_eq (by omega) (by omega)).mp z).symm)]), mSum_1, if_pos hi]
theorem hang_load {f : Nat → Int32} {nb nc : Nat} (hb : nb ≤ 8) (h : ∀ k, k < nc → f (44 + 2 * k) = -1 ∨ ∃ i, i < nb ∧ f (44 + 2 * k) = nI i) : mSum (fun i => mLoad f nc (nI i)) nb = mHang f 1 nc := by
  refine (sum_bars (g := fun k => f (43 + 2 * k)) hb h).trans ?_
  exact mSum_c (fun k _ => rfl)
theorem hang_cnt {f : Nat → Int32} {nb nc : Nat} (hb : nb ≤ 8) (h : ∀ k, k < nc → f (44 + 2 * k) = -1 ∨ ∃ i, i < nb ∧ f (44 + 2 * k) = nI i) : mSum (fun i => mCnt f nc (nI i)) nb = mHang f 0 nc := by
  refine (sum_bars (g := fun _ => 1) hb h).trans ?_
  exact mSum_c (fun k _ => rfl)
