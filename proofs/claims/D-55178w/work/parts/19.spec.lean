/-- the first n of g, summed -/
def mSum (g : Nat → Int32) : Nat → Int32
  | 0 => 0
  | n + 1 => mSum g n + g n
theorem mSum_s (g : Nat → Int32) (n : Nat) : mSum g (n + 1) = mSum g n + g n := rfl
theorem mSum_c {f g : Nat → Int32} {n : Nat} (h : ∀ k, k < n → f k = g k) : mSum f n = mSum g n := by
  induction n with
  | zero => rfl
  | succ n ih => rw [mSum_s, mSum_s, ih (fun k hk => h k (by omega)), h n (by omega)]
/-! ===== THE REFERENCE's helpers (written by tools/model1.py) ===== -/
def mAbs (x : Int32) : Int32 := if x < 0 then -x else x
def mMax (x y : Int32) : Int32 := if x < y then y else x
def mMin (x y : Int32) : Int32 := if y < x then y else x
def mIn (x lo hi : Int32) : Int32 := if lo ≤ x ∧ x ≤ hi then 1 else 0
theorem mAbs_p {x : Int32} (h : 0 ≤ x) : x = mAbs x := by simp [mAbs, Int32.not_lt.mpr h]
theorem mAbs_n {x : Int32} (h : ¬ 0 ≤ x) : -x = mAbs x := by simp [mAbs, Int32.not_le.mp h]
theorem mIn_n {x lo hi : Int32} : narrow .boolean (.int (mIn x lo hi)) = .int (mIn x lo hi) := by unfold mIn; split <;> rfl
theorem mIn_t {x lo hi : Int32} (h1 : ¬ x < lo) (h2 : ¬ hi < x) : mIn x lo hi = 1 := by simp [mIn, Int32.not_lt.mp h1, Int32.not_lt.mp h2]
theorem mIn_f1 {x lo hi : Int32} (h1 : x < lo) : mIn x lo hi = 0 := by simp [mIn, Int32.not_le.mpr h1]
theorem mIn_f2 {x lo hi : Int32} (h1 : hi < x) : mIn x lo hi = 0 := by simp [mIn, Int32.not_le.mpr h1]

def mLoad (f : Nat → Int32) (n : Nat) (x : Int32) : Int32 := mSum (fun k => if f (44 + 2 * k) = x then f (43 + 2 * k) else 0) n
def mCnt (f : Nat → Int32) (n : Nat) (x : Int32) : Int32 := mSum (fun k => if f (44 + 2 * k) = x then 1 else 0) n
def mOn (f : Nat → Int32) (n : Nat) : Int32 := mSum (fun k => f (12 + 4 * k)) n
def mStr (f : Nat → Int32) (n : Nat) (x : Int32) : Int32 := mSum (fun k => if f (67 + 2 * k) = x then f (68 + 2 * k) else 0) n
def mDoors (f : Nat → Int32) : Int32 := mSum (fun k => f (79 + k)) 4

/-- what is asked of a bar's number -/
def mOff (f : Nat → Int32) (n i : Nat) (x : Int32) : Int32 := mAbs (mLoad f n x - 10 * f (12 + 4 * i))
def mBears (f : Nat → Int32) (i : Nat) : Int32 := mMax 0 (300 - 25 * f (13 + 4 * i))
def mLacks (f : Nat → Int32) (n i : Nat) : Int32 := mMax 0 (mLoad f n (nI i) + 10 * f (12 + 4 * i) - mBears f i)

def mLoud (f : Nat → Int32) (i : Nat) (y : Int32) : Int32 := mAbs (y - f (11 + 4 * i)) / 4 + f (13 + 4 * i) / 3 + 2 * mDoors f
def mRem3 (x : Int32) : Int32 := x - x / 3 * 3
def mWhy (f : Nat → Int32) (nc nh i : Nat) : Int32 := if f 5 < mOff f nc i (nI i) then 3 else if 0 < mLacks f nc i then 2 else if mStr f nh (mRem3 (nI i)) < mOff f nc i (nI i) then 4 else 0
theorem mWhy_r (f : Nat → Int32) (nc nh i : Nat) : mWhy f nc nh i = if f 5 < mOff f nc i (nI i) then 3 else if 0 < mLacks f nc i then 2 else if mStr f nh (nI i - nI i / 3 * 3) < mOff f nc i (nI i) then 4 else 0 := rfl
def mWith (f : Nat → Int32) (nc i k : Nat) : Int32 := mAbs (mLoad f nc (nI i) + (if f (44 + 2 * k) = nI i then 0 else f (43 + 2 * k)) - 10 * f (12 + 4 * i))

def mDet (f : Nat → Int32) (nc nh i : Nat) : Int32 := if mWhy f nc nh i = 3 then mOff f nc i (nI i) else if mWhy f nc nh i = 2 then mLacks f nc i else mStr f nh (nI i - nI i / 3 * 3)
theorem mWhy_c (f : Nat → Int32) (nc nh i : Nat) : mWhy f nc nh i = 0 ∨ mWhy f nc nh i = 2 ∨ mWhy f nc nh i = 3 ∨ mWhy f nc nh i = 4 := by
  rw [mWhy_r]
  split
  · simp
  · split
    · simp
    · split <;> simp
theorem mWhy_p (f : Nat → Int32) (nc nh i : Nat) : 0 < mWhy f nc nh i ↔ mWhy f nc nh i ≠ 0 := by
  rcases mWhy_c f nc nh i with h | h | h | h <;> rw [h] <;> decide
/-! ===== THE LAW's MATHEMATICS: the state f (131 numbers, as the reference lays them), what each change answers and does, what each question answers ===== -/
/-- a change's outcome: (answer, new state), or (the exception's place, and for a refusal its reason and detail) -/
abbrev xR : Type := (Int32 × (Nat → Int32)) ⊕ (Nat × Option (Int32 × Int32))
def xRet (r : xR) : Int32 := match r with
  | .inl (a, _) => a
  | .inr _ => 0
def xIv (iv : Nat → Int32) (r : xR) : Nat → Int32 := match r with
  | .inl _ => iv
  | .inr (p, none) => upd iv 7 (nI p)
  | .inr (p, some (a, b)) => upd (upd (upd iv 7 (nI p)) 8 a) 9 b
/-- one array's contents changed -/
def mu (av : Nat → Nat → Int32) (j : Nat) (f : Nat → Int32) : Nat → Nat → Int32 := fun i => if i = j then f else av i
def xAv (av : Nat → Nat → Int32) (r : xR) : Nat → Nat → Int32 := match r with
  | .inl (_, f) => mu av 0 f
  | .inr _ => av
/-- the counts of bars, curtains, hands, cues -/
def mC (f : Nat → Int32) (nb nc nh nq : Nat) : Prop := f 1 = nI nb ∧ nb ≤ 8 ∧ f 2 = nI nc ∧ nc ≤ 12 ∧ f 3 = nI nh ∧ nh ≤ 6 ∧ f 4 = nI nq ∧ nq ≤ 12
/-- the bars that curtains hang on and that cues name are there -/
def mL (f : Nat → Int32) (nb nc nq : Nat) : Prop := (∀ k, k < nc → f (44 + 2 * k) = -1 ∨ ∃ i, i < nb ∧ f (44 + 2 * k) = nI i) ∧ ∀ k, k < nq → ∃ i, i < nb ∧ f (84 + 4 * k) = nI i
/-- a place named by an int -/
def xAt (x : Int32) (n : Nat) : Prop := mIn x 0 (nI n - 1) = 1
theorem xAt_i {x : Int32} {n : Nat} (hn : n < 2 ^ 31) (h : mIn x 0 (nI n - 1) ≠ 0) : ∃ i, i < n ∧ x = nI i := by
  unfold mIn at h
  split at h
  · rename_i q
    obtain ⟨q1, q2⟩ := q
    obtain ⟨j, hj, rfl⟩ := nI_of (Int32.not_lt.mpr q1)
    refine ⟨j, ?_, rfl⟩
    rcases n with _ | n
    · exfalso
      have e : nI 0 - 1 = -1 := rfl
      rw [e] at q2
      have h2 : (0 : Int32) ≤ -1 := Int32.le_trans (nI_pos' hj) q2
      exact absurd h2 (by decide)
    · rw [nI_pred] at q2
      have := (nI_leI hj (by omega)).mp q2
      omega
  · exact absurd rfl h
theorem xAt_n {i n : Nat} (hn : n < 2 ^ 31) (h : i < n) : mIn (nI i) 0 (nI n - 1) = 1 := by
  rcases n with _ | n
  · omega
  · rw [nI_pred]
    unfold mIn
    rw [if_pos ⟨nI_pos' (by omega), nI_le (by omega) (by omega)⟩]
theorem xAt_0 {x : Int32} {n : Nat} (h : mIn x 0 (nI n - 1) = 0) : ∀ i, i < n → n < 2 ^ 31 → x ≠ nI i := by
  rintro i hi hn rfl
  rw [xAt_n hn hi] at h
  exact absurd h (by decide)
def xTold (f : Nat → Int32) (k : Int32) : xR := if mIn k 0 40 = 0 then .inr (1, none) else .inl (f 5, upd f 5 k)
def xBar (f : Nat → Int32) (nb : Nat) : xR := if nb = 8 then .inr (1, none) else .inl (nI nb, upd (upd (upd (upd (upd f (11 + 4 * nb) 0) (12 + 4 * nb) 0) (13 + 4 * nb) 0) (14 + 4 * nb) 0) 1 (nI (nb + 1)))
def xRope1 (f : Nat → Int32) (i : Nat) : xR := if f (13 + 4 * i) = 0 then .inr (2, some (11, nI i)) else if f 6 < 5 then .inr (2, some (12, 5 - f 6)) else .inl (f (13 + 4 * i), upd (upd f 6 (f 6 - 5)) (13 + 4 * i) 0)
def xRope (f : Nat → Int32) (nb : Nat) (x : Int32) : xR := if mIn x 0 (nI nb - 1) = 0 then .inr (1, none) else xRope1 f x.toNatClampNeg
/-- the first k bars are y years older -/
def xYrs (f : Nat → Int32) (y : Int32) : Nat → Nat → Int32
  | 0 => f
  | k + 1 => upd (xYrs f y k) (13 + 4 * k) (xYrs f y k (13 + 4 * k) + y)
def xYear (f : Nat → Int32) (nb nc : Nat) (y : Int32) : xR := if mIn y 1 9 = 0 then .inr (1, none) else .inl (mSum (fun k => if 0 < mLacks (xYrs f y (k + 1)) nc k then 1 else 0) nb, upd (xYrs f y nb) 0 (xYrs f y nb 0 + y))
def xCurtain (f : Nat → Int32) (nc : Nat) (w : Int32) : xR := if mIn w 5 90 = 0 then .inr (1, none) else if nc = 12 then .inr (2, none) else .inl (nI nc, upd (upd (upd f (43 + 2 * nc) w) (44 + 2 * nc) (-1)) 2 (nI (nc + 1)))
def xHang1 (f : Nat → Int32) (nc c i : Nat) : xR := if 0 ≤ f (44 + 2 * c) then .inr (2, some (6, f (44 + 2 * c))) else if 0 < f (11 + 4 * i) then .inr (2, some (8, f (11 + 4 * i))) else .inl (mLoad (upd f (44 + 2 * c) (nI i)) nc (nI i), upd f (44 + 2 * c) (nI i))
def xHang (f : Nat → Int32) (nb nc : Nat) (c x : Int32) : xR := if mIn c 0 (nI nc - 1) = 0 then .inr (1, none) else if mIn x 0 (nI nb - 1) = 0 then .inr (1, none) else xHang1 f nc c.toNatClampNeg x.toNatClampNeg
def xDrop1 (f : Nat → Int32) (c : Nat) : xR := if f (44 + 2 * c) < 0 then .inr (2, some (7, nI c)) else if 0 < f (11 + 4 * (f (44 + 2 * c)).toNatClampNeg) then .inr (2, some (8, f (11 + 4 * (f (44 + 2 * c)).toNatClampNeg))) else .inl (f (44 + 2 * c), upd f (44 + 2 * c) (-1))
def xDrop (f : Nat → Int32) (nc : Nat) (c : Int32) : xR := if mIn c 0 (nI nc - 1) = 0 then .inr (1, none) else xDrop1 f c.toNatClampNeg
def xWts1 (f : Nat → Int32) (nb i : Nat) (m : Int32) : xR := if m = 0 ∨ mIn m (-20) 20 = 0 then .inr (2, none) else if 0 < f (11 + 4 * i) then .inr (3, some (8, f (11 + 4 * i))) else if mIn (f (12 + 4 * i) + m) 0 20 = 0 then .inr (3, some (9, f (12 + 4 * i))) else if 60 - mOn f nb < m then .inr (3, some (1, 60 - mOn f nb)) else .inl (f (12 + 4 * i) + m, upd f (12 + 4 * i) (f (12 + 4 * i) + m))
def xWts (f : Nat → Int32) (nb : Nat) (x m : Int32) : xR := if mIn x 0 (nI nb - 1) = 0 then .inr (1, none) else xWts1 f nb x.toNatClampNeg m
def xHand (f : Nat → Int32) (nh : Nat) (fl s : Int32) : xR := if mIn fl 0 2 = 0 ∨ mIn s 1 30 = 0 then .inr (1, none) else if nh = 6 then .inr (2, none) else .inl (nI nh, upd (upd (upd f (67 + 2 * nh) fl) (68 + 2 * nh) s) 3 (nI (nh + 1)))
def xMove (f : Nat → Int32) (nh : Nat) (x fl : Int32) : xR := if mIn x 0 (nI nh - 1) = 0 then .inr (1, none) else if mIn fl 0 2 = 0 then .inr (2, none) else .inl (mStr (upd f (67 + 2 * x.toNatClampNeg) fl) nh fl, upd f (67 + 2 * x.toNatClampNeg) fl)
def xDoor (f : Nat → Int32) (d z : Int32) : xR := if mIn d 0 3 = 0 then .inr (1, none) else .inl (mDoors (upd f (79 + d.toNatClampNeg) z), upd f (79 + d.toNatClampNeg) z)
def xLift (f : Nat → Int32) (i : Nat) (y : Int32) : Nat → Int32 := upd (upd (upd (upd f (11 + 4 * i) y) (14 + 4 * i) (f (14 + 4 * i) + mAbs (y - f (11 + 4 * i)))) 9 (f 9 + mAbs (y - f (11 + 4 * i)))) 10 (f 10 + 1)
def xFly1 (f : Nat → Int32) (nc nh i : Nat) (y : Int32) : xR := if mIn y 0 20 = 0 then .inr (2, none) else if mWhy f nc nh i = 0 then .inl (mLoud f i y, xLift f i y) else .inr (3, some (mWhy f nc nh i, mDet f nc nh i))
def xFly (f : Nat → Int32) (nb nc nh : Nat) (x y : Int32) : xR := if mIn x 0 (nI nb - 1) = 0 then .inr (1, none) else xFly1 f nc nh x.toNatClampNeg y
/-- the first cue from place k on, of n, whose light is above z -/
def xNx (f : Nat → Int32) (z : Int32) : Nat → Nat → Option Nat
  | 0, _ => none
  | n + 1, k => if z < f (83 + 4 * k) then some k else xNx f z n (k + 1)
def xNext (f : Nat → Int32) (nq : Nat) : Option Nat := xNx f (f 7) nq 0
def xGo1 (f : Nat → Int32) (nc nh k i : Nat) : xR := if mWhy f nc nh i = 0 then (if f (86 + 4 * k) < mLoud f i (f (85 + 4 * k)) then .inr (1, some (5, mLoud f i (f (85 + 4 * k)))) else .inl (f (83 + 4 * k), upd (upd (xLift f i (f (85 + 4 * k))) 7 (f (83 + 4 * k))) 8 (f 8 + 1))) else .inr (1, some (mWhy f nc nh i, mDet f nc nh i))
def xGo (f : Nat → Int32) (nc nh nq : Nat) : xR := match xNext f nq with
  | none => .inr (1, some (10, f 4))
  | some k => xGo1 f nc nh k (f (84 + 4 * k)).toNatClampNeg
/-- the state at first -/
def x0 : Nat → Int32 := fun j => if j = 5 then 15 else if j = 6 then 40 else if j = 7 then -1 else 0
def xNextI (o : Option Nat) : Int32 := match o with
  | none => -1
  | some k => nI k
theorem xNx_s (f : Nat → Int32) (z : Int32) (n k : Nat) : xNx f z (n + 1) k = if z < f (83 + 4 * k) then some k else xNx f z n (k + 1) := rfl
theorem xNx_t {f : Nat → Int32} {z : Int32} {nq k : Nat} (h : k < nq) (c : z < f (83 + 4 * k)) : xNx f z (nq - k) k = some k := by
  obtain ⟨d, hd⟩ : ∃ d, nq - k = d + 1 := ⟨nq - k - 1, by omega⟩
  rw [hd, xNx_s, if_pos c]
theorem xNx_f {f : Nat → Int32} {z : Int32} {nq k : Nat} (h : k < nq) (c : ¬ z < f (83 + 4 * k)) : xNx f z (nq - k) k = xNx f z (nq - (k + 1)) (k + 1) := by
  obtain ⟨d, hd⟩ : ∃ d, nq - k = d + 1 := ⟨nq - k - 1, by omega⟩
  rw [hd, xNx_s, if_neg c, show nq - (k + 1) = d by omega]
theorem xNx_lt {f : Nat → Int32} {z : Int32} : ∀ (n k j : Nat), xNx f z n k = some j → k ≤ j ∧ j < k + n ∧ z < f (83 + 4 * j) := by
  intro n
  induction n with
  | zero => intro k j h; cases h
  | succ n ih =>
    intro k j h
    rw [xNx_s] at h
    split at h
    · rename_i q; cases h; exact ⟨Nat.le_refl _, by omega, q⟩
    · obtain ⟨h1, h2, h3⟩ := ih _ _ h
      exact ⟨by omega, by omega, h3⟩
theorem xLift_n {f : Nat → Int32} {i j : Nat} {y : Int32} (h1 : j ≠ 11 + 4 * i) (h2 : j ≠ 14 + 4 * i) (h3 : j ≠ 9) (h4 : j ≠ 10) : xLift f i y j = f j := by
  simp only [xLift, pk_un h4, pk_un h3, pk_un h2, pk_un h1]
theorem xYrs_n {f : Nat → Int32} {y : Int32} {j : Nat} : ∀ {k : Nat}, (∀ i, i < k → j ≠ 13 + 4 * i) → xYrs f y k j = f j := by
  intro k
  induction k with
  | zero => intro _; rfl
  | succ k ih =>
    intro h
    show upd (xYrs f y k) (13 + 4 * k) _ j = f j
    rw [pk_un (h k (by omega)), ih (fun i hi => h i (by omega))]
theorem mu_id {av : Nat → Nat → Int32} {j : Nat} : mu av j (av j) = av := by
  funext i
  by_cases q : i = j
  · subst q; simp [mu]
  · simp [mu, q]
/-- an array's contents are 0 past its end -/
def mZ (av : Nat → Nat → Int32) : Prop := (∀ j, 131 ≤ j → av 0 j = 0) ∧ (∀ j, 131 ≤ j → av 1 j = 0) ∧ (∀ j, 131 ≤ j → av 2 j = 0) ∧ (∀ j, 131 ≤ j → av 3 j = 0) ∧ ∀ j, 1048 ≤ j → av 5 j = 0
theorem cpy_full {f g : Nat → Int32} {n : Nat} (hf : ∀ j, n ≤ j → f j = 0) (hg : ∀ j, n ≤ j → g j = 0) : va_cpy f g 0 0 n = f := by
  funext k
  by_cases q : k < n
  · rw [pk_cpy_in (Nat.zero_le _) (by omega)]; simp
  · rw [pk_cpy_out (by omega), hf k (by omega), hg k (by omega)]
def xPush (p f : Nat → Int32) (np : Nat) : Nat → Int32 := if np = 8 then va_cpy f (va_cpy p p 131 0 917) 0 917 131 else va_cpy f p 0 (131 * np) 131
def xNp (np : Nat) : Nat := if np = 8 then 8 else np + 1
/-- what a call of a change leaves -/
def xSIv (iv : Nat → Int32) (r : xR) (np : Nat) : Nat → Int32 := match r with
  | .inl _ => upd (upd iv 7 0) 6 (nI (xNp np))
  | .inr q => xIv (upd iv 7 0) (.inr q)
def xSAv (av : Nat → Nat → Int32) (r : xR) (np : Nat) : Nat → Nat → Int32 := match r with
  | .inl (_, f) => mu (mu (mu av 1 (av 0)) 0 f) 5 (xPush (av 5) (av 0) np)
  | .inr _ => mu av 1 (av 0)
theorem xIv_7 {iv : Nat → Int32} {p : Nat} {d : Option (Int32 × Int32)} : xIv iv (.inr (p, d)) 7 = nI p := by
  rcases d with _ | ⟨a, b⟩
  · exact pk_us
  · show upd (upd (upd iv 7 (nI p)) 8 a) 9 b 7 = nI p
    rw [pk_un (by decide), pk_un (by decide)]; exact pk_us
theorem upd_upd {f : Nat → Int32} {k : Nat} {x y : Int32} : upd (upd f k x) k y = upd f k y := by
  funext j
  by_cases q : j = k <;> simp [upd, q]
/-- a change's place is 1, 2 or 3 -/
def xOk (r : xR) : Prop := ∀ p d, r = .inr (p, d) → 1 ≤ p ∧ p ≤ 3
theorem xOk_i {p : Nat} {d : Option (Int32 × Int32)} (h1 : 1 ≤ p) (h2 : p ≤ 3) : xOk (.inr (p, d)) := by
  intro p' d' h; cases h; exact ⟨h1, h2⟩
theorem xOk_l {a : Int32 × (Nat → Int32)} : xOk (.inl a) := by intro p d h; cases h
theorem xOk_if {c : Prop} {d : Decidable c} {a b : xR} (ha : xOk a) (hb : xOk b) : xOk (@ite _ c d a b) := by
  by_cases q : c
  · rw [if_pos q]; exact ha
  · rw [if_neg q]; exact hb
theorem xTold_ok {f : Nat → Int32} {k : Int32} : xOk (xTold f k) := xOk_if (xOk_i (by decide) (by decide)) xOk_l
theorem xBar_ok {f : Nat → Int32} {n : Nat} : xOk (xBar f n) := xOk_if (xOk_i (by decide) (by decide)) xOk_l
theorem xRope_ok {f : Nat → Int32} {n : Nat} {x : Int32} : xOk (xRope f n x) := xOk_if (xOk_i (by decide) (by decide)) (xOk_if (xOk_i (by decide) (by decide)) (xOk_if (xOk_i (by decide) (by decide)) xOk_l))
theorem xYear_ok {f : Nat → Int32} {n c : Nat} {x : Int32} : xOk (xYear f n c x) := xOk_if (xOk_i (by decide) (by decide)) xOk_l
theorem xCurtain_ok {f : Nat → Int32} {n : Nat} {x : Int32} : xOk (xCurtain f n x) := xOk_if (xOk_i (by decide) (by decide)) (xOk_if (xOk_i (by decide) (by decide)) xOk_l)
theorem xHang_ok {f : Nat → Int32} {n k : Nat} {x y : Int32} : xOk (xHang f n k x y) := xOk_if (xOk_i (by decide) (by decide)) (xOk_if (xOk_i (by decide) (by decide)) (xOk_if (xOk_i (by decide) (by decide)) (xOk_if (xOk_i (by decide) (by decide)) xOk_l)))
theorem xDrop_ok {f : Nat → Int32} {n : Nat} {x : Int32} : xOk (xDrop f n x) := xOk_if (xOk_i (by decide) (by decide)) (xOk_if (xOk_i (by decide) (by decide)) (xOk_if (xOk_i (by decide) (by decide)) xOk_l))
theorem xWts_ok {f : Nat → Int32} {n : Nat} {x y : Int32} : xOk (xWts f n x y) := xOk_if (xOk_i (by decide) (by decide)) (xOk_if (xOk_i (by decide) (by decide)) (xOk_if (xOk_i (by decide) (by decide)) (xOk_if (xOk_i (by decide) (by decide)) (xOk_if (xOk_i (by decide) (by decide)) xOk_l))))
theorem xHand_ok {f : Nat → Int32} {n : Nat} {x y : Int32} : xOk (xHand f n x y) := xOk_if (xOk_i (by decide) (by decide)) (xOk_if (xOk_i (by decide) (by decide)) xOk_l)
theorem xMove_ok {f : Nat → Int32} {n : Nat} {x y : Int32} : xOk (xMove f n x y) := xOk_if (xOk_i (by decide) (by decide)) (xOk_if (xOk_i (by decide) (by decide)) xOk_l)
theorem xDoor_ok {f : Nat → Int32} {x y : Int32} : xOk (xDoor f x y) := xOk_if (xOk_i (by decide) (by decide)) xOk_l
theorem xFly_ok {f : Nat → Int32} {n c k : Nat} {x y : Int32} : xOk (xFly f n c k x y) := xOk_if (xOk_i (by decide) (by decide)) (xOk_if (xOk_i (by decide) (by decide)) (xOk_if xOk_l (xOk_i (by decide) (by decide))))
theorem xGo_ok {f : Nat → Int32} {c k n : Nat} : xOk (xGo f c k n) := by
  unfold xGo
  split
  · exact xOk_i (by decide) (by decide)
  · exact xOk_if (xOk_if (xOk_i (by decide) (by decide)) xOk_l) (xOk_i (by decide) (by decide))
