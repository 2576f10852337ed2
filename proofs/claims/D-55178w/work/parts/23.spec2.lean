/-! ===== WHAT THE QUESTIONS ANSWER: an answer, or the exception's place ===== -/
abbrev xQ : Type := Int32 ⊕ Nat
def qV (q : xQ) : Int32 := match q with
  | .inl a => a
  | .inr _ => 0
def qP (q : xQ) : Int32 := match q with
  | .inl _ => 0
  | .inr p => nI p
def qIf (c : Int32) (p : Nat) (q : xQ) : xQ := if c = 0 then .inr p else q
theorem qIf_t {c : Int32} {p : Nat} {q : xQ} (h : c = 0) : qIf c p q = .inr p := if_pos h
theorem qIf_f {c : Int32} {p : Nat} {q : xQ} (h : c ≠ 0) : qIf c p q = q := if_neg h
def qBar1 (f : Nat → Int32) (nc i : Nat) (w : Nat) : Int32 := match w with
  | 0 => f (11 + 4 * i)
  | 1 => mLoad f nc (nI i)
  | 2 => f (12 + 4 * i)
  | 3 => mOff f nc i (nI i)
  | 4 => f (13 + 4 * i)
  | 5 => mBears f i
  | 6 => mRem3 (nI i)
  | 7 => mCnt f nc (nI i)
  | _ => f (14 + 4 * i)
def qBarOf (f : Nat → Int32) (nb nc : Nat) (x w : Int32) : xQ := qIf (mIn x 0 (nI nb - 1)) 1 (qIf (mIn w 0 8) 2 (.inl (qBar1 f nc x.toNatClampNeg w.toNatClampNeg)))
def qBarOfC (f : Nat → Int32) (nc : Nat) (x : Int32) : xQ := qIf (mIn x 0 (nI nc - 1)) 1 (.inl (f (44 + 2 * x.toNatClampNeg)))
/-- the first place from k on, of n, with P -/
def xFd (P : Nat → Bool) : Nat → Nat → Option Nat
  | 0, _ => none
  | n + 1, k => if P k then some k else xFd P n (k + 1)
theorem xFd_s (P : Nat → Bool) (n k : Nat) : xFd P (n + 1) k = if P k then some k else xFd P n (k + 1) := rfl
theorem xFd_t {P : Nat → Bool} {n k : Nat} (h : k < n) (c : P k = true) : xFd P (n - k) k = some k := by
  obtain ⟨d, hd⟩ : ∃ d, n - k = d + 1 := ⟨n - k - 1, by omega⟩
  rw [hd, xFd_s, if_pos c]
theorem xFd_f {P : Nat → Bool} {n k : Nat} (h : k < n) (c : P k = false) : xFd P (n - k) k = xFd P (n - (k + 1)) (k + 1) := by
  obtain ⟨d, hd⟩ : ∃ d, n - k = d + 1 := ⟨n - k - 1, by omega⟩
  rw [hd, xFd_s, if_neg (by simp [c]), show n - (k + 1) = d by omega]
def qOpt (o : Option Nat) (p : Nat) : xQ := match o with
  | none => .inr p
  | some k => .inl (nI k)
def qOnP (f : Nat → Int32) (b pl : Int32) (k : Nat) : Bool := decide (f (44 + 2 * k) = b ∧ mCnt f k b = pl)
def qOn (f : Nat → Int32) (nb nc : Nat) (x pl : Int32) : xQ := qIf (mIn x 0 (nI nb - 1)) 1 (qOpt (xFd (qOnP f x pl) nc 0) 2)
/-- the best number of weights among the first k -/
def qBw (l : Int32) : Nat → Int32
  | 0 => 0
  | k + 1 => if mAbs (l - 10 * nI (k + 1)) < mAbs (l - 10 * qBw l k) then nI (k + 1) else qBw l k
def qBestW (f : Nat → Int32) (nb nc : Nat) (x : Int32) : xQ := qIf (mIn x 0 (nI nb - 1)) 1 (.inl (qBw (mLoad f nc x) 20))
/-- the best bar for curtain c among the first k -/
def qBB (f : Nat → Int32) (nc c : Nat) : Nat → Option Nat
  | 0 => none
  | k + 1 => match qBB f nc c k with
    | none => if f (11 + 4 * k) = 0 then some k else none
    | some b => if f (11 + 4 * k) = 0 ∧ 0 < (if mWith f nc b c - mWith f nc k c ≠ 0 then mWith f nc b c - mWith f nc k c else f (13 + 4 * b) - f (13 + 4 * k)) then some k else some b
theorem qBB_s (f : Nat → Int32) (nc c k : Nat) : qBB f nc c (k + 1) = match qBB f nc c k with
    | none => if f (11 + 4 * k) = 0 then some k else none
    | some b => if f (11 + 4 * k) = 0 ∧ 0 < (if mWith f nc b c - mWith f nc k c ≠ 0 then mWith f nc b c - mWith f nc k c else f (13 + 4 * b) - f (13 + 4 * k)) then some k else some b := rfl
theorem ite_some {p : Prop} {d : Decidable p} {k b' b : Nat} (h : (@ite _ p d (some k) (some b')) = some b) : b = k ∨ b = b' := by
  by_cases q : p
  · rw [if_pos q] at h; cases h; exact .inl rfl
  · rw [if_neg q] at h; cases h; exact .inr rfl
theorem qBB_lt {f : Nat → Int32} {nc c : Nat} : ∀ {k b : Nat}, qBB f nc c k = some b → b < k := by
  intro k
  induction k with
  | zero => intro b h; cases h
  | succ k ih =>
    intro b h
    rw [qBB_s] at h
    split at h
    · split at h
      · cases h; omega
      · cases h
    · rename_i b' hb
      have := ih hb
      rcases ite_some h with q | q <;> omega
def qBestB (f : Nat → Int32) (nb nc : Nat) (x : Int32) : xQ := qIf (mIn x 0 (nI nc - 1)) 1 (qOpt (qBB f nc x.toNatClampNeg nb) 2)
def qStr (f : Nat → Int32) (nh : Nat) (x : Int32) : xQ := qIf (mIn x 0 2) 1 (.inl (mStr f nh x))
def qNoise (f : Nat → Int32) (nb : Nat) (x y : Int32) : xQ := qIf (mIn x 0 (nI nb - 1)) 1 (qIf (mIn y 0 20) 2 (.inl (mLoud f x.toNatClampNeg y)))
def qWould (f : Nat → Int32) (nb nc nh : Nat) (x : Int32) : xQ := qIf (mIn x 0 (nI nb - 1)) 1 (.inl (mWhy f nc nh x.toNatClampNeg))
def qCueOf (f : Nat → Int32) (nq : Nat) (x w : Int32) : xQ := qIf (mIn x 0 (nI nq - 1)) 1 (qIf (mIn w 0 3) 2 (.inl (f (83 + 4 * x.toNatClampNeg + w.toNatClampNeg))))
def qLight (f : Nat → Int32) (nq : Nat) : xQ := match xNext f nq with
  | none => .inr 1
  | some k => .inl (f (83 + 4 * k))
def mHang (f : Nat → Int32) (z : Int32) (n : Nat) : Int32 := mSum (fun k => if f (44 + 2 * k) < 0 then 0 else if z = 0 then 1 else f (43 + 2 * k)) n
def mUnb (f : Nat → Int32) (nc n : Nat) : Int32 := mSum (fun k => if f 5 < mOff f nc k (nI k) then 1 else 0) n
def qAcc1 (f : Nat → Int32) (nb nc : Nat) (ln np : Int32) (w : Nat) : Int32 := match w with
  | 0 => f 0
  | 1 => f 1
  | 2 => f 2
  | 3 => mHang f 0 nc
  | 4 => mHang f 1 nc
  | 5 => 60 - mOn f nb
  | 6 => mOn f nb
  | 7 => f 3
  | 8 => mDoors f
  | 9 => f 4
  | 10 => f 8
  | 11 => f 9
  | 12 => f 10
  | 13 => f 6
  | 14 => mUnb f nc nb
  | 15 => f 5
  | 16 => ln
  | _ => np
def qAcc (f : Nat → Int32) (nb nc : Nat) (ln np w : Int32) : xQ := qIf (mIn w 0 17) 1 (.inl (qAcc1 f nb nc ln np w.toNatClampNeg))
def qRef (a b z : Int32) : xQ := if a = 0 then .inr 1 else .inl (if z = 0 then a else b)
def qNeg (a : Int32) : xQ := if a < 0 then .inr 1 else .inl a
def xZ (f : Nat → Int32) (k : Nat) : Nat → Int32 := fun j => if j < k then 0 else f j
theorem xZ_0 {f : Nat → Int32} : xZ f 0 = f := by funext j; simp [xZ]
theorem xZ_s {f : Nat → Int32} {k : Nat} : upd (xZ f k) k 0 = xZ f (k + 1) := by
  funext j
  by_cases q : j = k
  · subst q; rw [pk_us]; simp [xZ]
  · rw [pk_un q]; unfold xZ
    by_cases r : j < k
    · rw [if_pos r, if_pos (by omega)]
    · rw [if_neg r, if_neg (by omega)]
theorem xZ_x0 {f : Nat → Int32} (hz : ∀ j, 131 ≤ j → f j = 0) : upd (upd (upd (xZ f 131) 5 15) 6 40) 7 (-1) = x0 := by
  have e : xZ f 131 = fun _ => 0 := by
    funext j
    by_cases q : j < 131
    · simp [xZ, q]
    · rw [xZ, if_neg q]; exact hz j (by omega)
  rw [e]
  funext j
  unfold x0
  by_cases q7 : j = 7
  · subst q7; rw [pk_us]; rfl
  · by_cases q6 : j = 6
    · subst q6; rw [pk_un (by decide), pk_us]; rfl
    · by_cases q5 : j = 5
      · subst q5; rw [pk_un (by decide), pk_un (by decide), pk_us]; rfl
      · rw [pk_un q7, pk_un q6, pk_un q5, if_neg q5, if_neg q6, if_neg q7]
