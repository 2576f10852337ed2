/-! ===== THE DEQUE of past theatres: 17 places, np of them from hd on ===== -/
def dqD (hd np : Nat) (p : Nat → Nat) : Nat → Option Nat := fun i => if i < 17 ∧ (i + 17 - hd) % 17 < np then some (p ((i + 17 - hd) % 17)) else none
theorem dq_0 {hd : Nat} {p : Nat → Nat} : dqD hd 0 p = fun _ => none := by
  funext i
  unfold dqD
  rw [if_neg (by omega)]
theorem dq_at {hd np k : Nat} {p : Nat → Nat} (hh : hd < 17) (hn : np ≤ 17) (hk : k < np) : dqD hd np p ((hd + k) % 17) = some (p k) := by
  unfold dqD
  have e : ((hd + k) % 17 + 17 - hd) % 17 = k := by omega
  rw [e, if_pos ⟨by omega, hk⟩]
theorem dq_add {hd np y : Nat} {p : Nat → Nat} (hh : hd < 17) (hn : np < 17) : va_up (dqD hd np p) ((hd + np) % 17) (some y) = dqD hd (np + 1) (lsP p np y) := by
  funext i
  unfold dqD lsP
  by_cases q : i = (hd + np) % 17
  · have e : (i + 17 - hd) % 17 = np := by omega
    simp only [va_up, q, if_true]
    rw [← q, e, if_pos ⟨by omega, by omega⟩, if_pos rfl]
  · have e : va_up (fun i => if i < 17 ∧ (i + 17 - hd) % 17 < np then some (p ((i + 17 - hd) % 17)) else none) ((hd + np) % 17) (some y) i = if i < 17 ∧ (i + 17 - hd) % 17 < np then some (p ((i + 17 - hd) % 17)) else none := by simp [va_up, q]
    rw [e]
    by_cases r : i < 17 ∧ (i + 17 - hd) % 17 < np
    · rw [if_pos r, if_pos ⟨r.1, by omega⟩, if_neg (by omega)]
    · rw [if_neg r, if_neg (by omega)]
theorem dq_first {hd np : Nat} {p : Nat → Nat} (hh : hd < 17) (hn : np < 17) : va_up (dqD hd (np + 1) p) hd none = dqD ((hd + 1) % 17) np (fun i => p (i + 1)) := by
  funext i
  unfold dqD
  by_cases q : i = hd
  · subst q
    simp only [va_up, if_true]
    rw [if_neg (by omega)]
  · have e : va_up (fun i => if i < 17 ∧ (i + 17 - hd) % 17 < np + 1 then some (p ((i + 17 - hd) % 17)) else none) hd none i = if i < 17 ∧ (i + 17 - hd) % 17 < np + 1 then some (p ((i + 17 - hd) % 17)) else none := by simp [va_up, q]
    rw [e]
    by_cases r : i < 17 ∧ (i + 17 - hd) % 17 < np + 1
    · rw [if_pos r, if_pos ⟨r.1, by omega⟩]
      congr 2; omega
    · rw [if_neg r, if_neg (by omega)]
theorem dq_last {hd np : Nat} {p : Nat → Nat} (hh : hd < 17) (hn : np < 17) : va_up (dqD hd (np + 1) p) ((hd + np) % 17) none = dqD hd np p := by
  funext i
  unfold dqD
  by_cases q : i = (hd + np) % 17
  · subst q
    simp only [va_up, if_true]
    rw [if_neg (by omega)]
  · have e : va_up (fun i => if i < 17 ∧ (i + 17 - hd) % 17 < np + 1 then some (p ((i + 17 - hd) % 17)) else none) ((hd + np) % 17) none i = if i < 17 ∧ (i + 17 - hd) % 17 < np + 1 then some (p ((i + 17 - hd) % 17)) else none := by simp [va_up, q]
    rw [e]
    by_cases r : i < 17 ∧ (i + 17 - hd) % 17 < np + 1
    · rw [if_pos r, if_pos ⟨r.1, by omega⟩]
    · rw [if_neg r, if_neg (by omega)]
theorem dq_sub {i j m : Nat} (hi : i < 2 ^ 20) (hj : j < 2 ^ 20) (hm : m < 2 ^ 20) (h : j ≤ i + m) : nI i - nI j + nI m = nI (i + m - j) := by
  rw [← pk_sub h, ← nI_add]
  simp only [Int32.sub_eq_add_neg, Int32.add_assoc]
  rw [Int32.add_comm (-nI j) (nI m)]
theorem ge_sub {i j : Nat} (hi : i < 2 ^ 20) (hj : j < 2 ^ 20) : 0 ≤ nI i - nI j ↔ j ≤ i := by
  constructor
  · intro h
    exact Classical.byContradiction (fun q => Int32.not_lt.mpr h (pk_sneg (by omega) (by omega)))
  · intro h
    rw [pk_sub h]; exact nI_pos' (by omega)
/-- the deque at a: array e, head hd, np theatres p -/
def dqO (K : gK) (h : AH) (a e hd np : Nat) (p : Nat → Nat) : Prop := h a = some (.inr (5, [.ref e, .int (nI hd), .int (nI ((hd + np) % 17))])) ∧ h e = some (.inl (gT K 6, 17, .inr (.inr (.inr (.inr (dqD hd np p)))))) ∧ hd < 17 ∧ np ≤ 8
theorem dqO.up {K : gK} {h h' : AH} {a e hd np : Nat} {p : Nat → Nat} (f : gE h h') (x : dqO K h a e hd np p) : dqO K h' a e hd np p := ⟨f _ _ x.1, f _ _ x.2.1, x.2.2⟩
