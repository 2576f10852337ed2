/-! ===== LISTS IN ORDER: cues by light, bars by balance ===== -/
/-- a number into a list in order -/
def ins (k : Nat) : List Nat → List Nat
  | [] => [k]
  | a :: t => if a < k then a :: ins k t else k :: a :: t
/-- its place -/
def plc (k : Nat) : List Nat → Nat
  | [] => 0
  | a :: t => if a < k then plc k t + 1 else 0
theorem ins_mem {k x : Nat} {S : List Nat} : x ∈ ins k S ↔ x = k ∨ x ∈ S := by
  induction S with
  | nil => simp [ins]
  | cons a t ih =>
    simp only [ins]
    split
    · simp only [List.mem_cons, ih]
      constructor
      · rintro (z | z | z)
        · exact .inr (.inl z)
        · exact .inl z
        · exact .inr (.inr z)
      · rintro (z | z | z)
        · exact .inr (.inl z)
        · exact .inl z
        · exact .inr (.inr z)
    · simp only [List.mem_cons]
theorem ins_srt {k : Nat} {S : List Nat} (h : S.Pairwise (· < ·)) (hk : k ∉ S) : (ins k S).Pairwise (· < ·) := by
  induction S with
  | nil => simp [ins]
  | cons a t ih =>
    have h2 := List.pairwise_cons.mp h
    have hka : k ≠ a := fun z => hk (by simp [z])
    have hkt : k ∉ t := fun z => hk (by simp [z])
    simp only [ins]
    split
    · rename_i q
      refine List.pairwise_cons.mpr ⟨fun x hx => ?_, ih h2.2 hkt⟩
      rcases ins_mem.mp hx with rfl | z
      · exact q
      · exact h2.1 x z
    · rename_i q
      refine List.pairwise_cons.mpr ⟨fun x hx => ?_, h⟩
      rcases List.mem_cons.mp hx with rfl | z
      · omega
      · have := h2.1 x z; omega
theorem ins_len {k : Nat} {S : List Nat} : (ins k S).length = S.length + 1 := by
  induction S with
  | nil => rfl
  | cons a t ih => simp only [ins]; split <;> simp [ih]
theorem plc_le {k : Nat} {S : List Nat} : plc k S ≤ S.length := by
  induction S with
  | nil => exact Nat.le_refl _
  | cons a t ih => simp only [plc]; split <;> simp <;> omega
theorem plc_lt {k : Nat} {S : List Nat} : ∀ {i : Nat}, i < plc k S → S.getD i 0 < k := by
  induction S with
  | nil => intro i hi; simp [plc] at hi
  | cons a t ih =>
    intro i hi
    simp only [plc] at hi
    split at hi
    · rename_i q
      cases i with
      | zero => simpa using q
      | succ i => simpa using ih (i := i) (by omega)
    · omega
theorem plc_at {k : Nat} {S : List Nat} : plc k S < S.length → ¬ S.getD (plc k S) 0 < k := by
  induction S with
  | nil => intro h; simp [plc] at h
  | cons a t ih =>
    intro h
    simp only [plc] at h ⊢
    split
    · rename_i q
      rw [if_pos q] at h
      have := ih (by simp at h; exact h)
      simpa using this
    · rename_i q; simpa using q
theorem plc_t {k a : Nat} {t : List Nat} (h : a < k) : plc k (a :: t) = plc k t + 1 := if_pos h
theorem plc_f {k a : Nat} {t : List Nat} (h : ¬ a < k) : plc k (a :: t) = 0 := if_neg h
theorem ins_t {k a : Nat} {t : List Nat} (h : a < k) : ins k (a :: t) = a :: ins k t := if_pos h
theorem ins_f {k a : Nat} {t : List Nat} (h : ¬ a < k) : ins k (a :: t) = k :: a :: t := if_neg h
theorem ins_get {k : Nat} {S : List Nat} : ∀ {i : Nat}, (ins k S).getD i 0 = if i < plc k S then S.getD i 0 else if i = plc k S then k else S.getD (i - 1) 0 := by
  induction S with
  | nil => intro i; cases i <;> simp [ins, plc]
  | cons a t ih =>
    intro i
    by_cases q : a < k
    · rw [plc_t q, ins_t q]
      cases i with
      | zero => simp
      | succ i =>
        have e := ih (i := i)
        simp only [List.getD_cons_succ]
        rw [e]
        by_cases q1 : i < plc k t
        · rw [if_pos q1, if_pos (show i + 1 < plc k t + 1 by omega)]
        · by_cases q2 : i = plc k t
          · rw [if_neg q1, if_pos q2, if_neg (show ¬ i + 1 < plc k t + 1 by omega), if_pos (show i + 1 = plc k t + 1 by omega)]
          · rw [if_neg q1, if_neg q2, if_neg (show ¬ i + 1 < plc k t + 1 by omega), if_neg (show ¬ i + 1 = plc k t + 1 by omega)]
            obtain ⟨j, rfl⟩ : ∃ j, i = j + 1 := ⟨i - 1, by omega⟩
            simp
    · rw [plc_f q, ins_f q, if_neg (by omega)]
      cases i with
      | zero => simp
      | succ i => simp
/-- lists in order with the same members are the same -/
theorem srt_ext : ∀ {a b : List Nat}, a.Pairwise (· < ·) → b.Pairwise (· < ·) → (∀ x, x ∈ a ↔ x ∈ b) → a = b := by
  intro a
  induction a with
  | nil =>
    intro b _ _ h
    cases b with
    | nil => rfl
    | cons y u => exact absurd ((h y).mpr (by simp)) (by simp)
  | cons x t ih =>
    intro b ha hb h
    cases b with
    | nil => exact absurd ((h x).mp (by simp)) (by simp)
    | cons y u =>
      have ha2 := List.pairwise_cons.mp ha
      have hb2 := List.pairwise_cons.mp hb
      have exy : x = y := by
        rcases List.mem_cons.mp ((h x).mp (by simp)) with q | q
        · exact q
        · rcases List.mem_cons.mp ((h y).mpr (by simp)) with r | r
          · exact r.symm
          · have := hb2.1 x q; have := ha2.1 y r; omega
      subst exy
      rw [ih ha2.2 hb2.2 (fun z => ?_)]
      constructor
      · intro hz
        rcases List.mem_cons.mp ((h z).mp (by simp [hz])) with q | q
        · subst q; exact absurd (ha2.1 _ hz) (by omega)
        · exact q
      · intro hz
        rcases List.mem_cons.mp ((h z).mpr (by simp [hz])) with q | q
        · subst q; exact absurd (hb2.1 _ hz) (by omega)
        · exact q
/-- the first m of the row, those with P, in order -/
def srt (P : Nat → Bool) (o : Nat → Nat) : Nat → List Nat
  | 0 => []
  | m + 1 => if P (o m) then ins (o m) (srt P o m) else srt P o m
theorem srt_s {P : Nat → Bool} {o : Nat → Nat} {m : Nat} : srt P o (m + 1) = if P (o m) then ins (o m) (srt P o m) else srt P o m := rfl
theorem srt_mem {P : Nat → Bool} {o : Nat → Nat} {m x : Nat} : x ∈ srt P o m ↔ ∃ j, j < m ∧ o j = x ∧ P x = true := by
  induction m with
  | zero => simp [srt]
  | succ m ih =>
    rw [srt_s]
    by_cases q : P (o m) = true
    · rw [if_pos q, ins_mem, ih]
      constructor
      · rintro (rfl | ⟨j, h1, h2, h3⟩)
        · exact ⟨m, by omega, rfl, q⟩
        · exact ⟨j, by omega, h2, h3⟩
      · rintro ⟨j, h1, h2, h3⟩
        by_cases r : j = m
        · subst r; exact .inl h2.symm
        · exact .inr ⟨j, by omega, h2, h3⟩
    · rw [if_neg q, ih]
      constructor
      · rintro ⟨j, h1, h2, h3⟩; exact ⟨j, by omega, h2, h3⟩
      · rintro ⟨j, h1, h2, h3⟩
        refine ⟨j, ?_, h2, h3⟩
        by_cases r : j = m
        · subst r; rw [h2] at q; exact absurd h3 q
        · omega
/-- an order that names each once -/
def sPerm (o : Nat → Nat) (n : Nat) : Prop := (∀ j, j < n → o j < n) ∧ (∀ i j, i < n → j < n → o i = o j → i = j) ∧ ∀ k, k < n → ∃ j, j < n ∧ o j = k
theorem srt_new {P : Nat → Bool} {o : Nat → Nat} {n m : Nat} (h : sPerm o n) (hm : m < n) : o m ∉ srt P o m := by
  intro z
  obtain ⟨j, h1, h2, -⟩ := srt_mem.mp z
  have := h.2.1 j m (by omega) hm h2
  omega
theorem srt_srt {P : Nat → Bool} {o : Nat → Nat} {n : Nat} (h : sPerm o n) : ∀ {m : Nat}, m ≤ n → (srt P o m).Pairwise (· < ·) := by
  intro m
  induction m with
  | zero => intro _; simp [srt]
  | succ m ih =>
    intro hm
    rw [srt_s]
    split
    · exact ins_srt (ih (by omega)) (srt_new h (by omega))
    · exact ih (by omega)
theorem srt_len {P : Nat → Bool} {o : Nat → Nat} {m : Nat} : (srt P o m).length ≤ m := by
  induction m with
  | zero => exact Nat.le_refl _
  | succ m ih =>
    rw [srt_s]; split
    · rw [ins_len]; omega
    · omega
theorem range_srt {P : Nat → Bool} {n : Nat} : ((List.range n).filter P).Pairwise (· < ·) := (List.pairwise_lt_range).filter P
theorem srt_all {P : Nat → Bool} {o : Nat → Nat} {n : Nat} (h : sPerm o n) : srt P o n = (List.range n).filter P := by
  refine srt_ext (srt_srt h (Nat.le_refl _)) range_srt (fun x => ?_)
  rw [srt_mem, List.mem_filter, List.mem_range]
  constructor
  · rintro ⟨j, h1, h2, h3⟩; exact ⟨h2 ▸ h.1 j h1, h3⟩
  · rintro ⟨h1, h2⟩
    obtain ⟨j, h3, h4⟩ := h.2.2 x h1
    exact ⟨j, h3, h4, h2⟩
theorem srt_tt {o : Nat → Nat} {n : Nat} (h : sPerm o n) : srt (fun _ => true) o n = List.range n := by
  rw [srt_all h]; exact List.filter_eq_self.mpr (by intro _ _; rfl)
/-- lights go up -/
def mQs (f : Nat → Int32) (nq : Nat) : Prop := ∀ i j, i < j → j < nq → f (83 + 4 * i) < f (83 + 4 * j)
theorem mQs_i {f : Nat → Int32} {nq i j : Nat} (h : mQs f nq) (hi : i < nq) (hj : j < nq) : f (83 + 4 * i) < f (83 + 4 * j) ↔ i < j := by
  constructor
  · intro z
    by_cases q : i < j
    · exact q
    · by_cases r : i = j
      · subst r; exact absurd z (Int32.lt_irrefl)
      · exact absurd z (Int32.lt_asymm (h j i (by omega) hi))
  · intro z; exact h i j z hj
theorem xNx_min {f : Nat → Int32} {z : Int32} : ∀ {n k : Nat}, (∀ j, xNx f z n k = some j → ∀ i, k ≤ i → i < j → ¬ z < f (83 + 4 * i)) ∧ (xNx f z n k = none → ∀ i, k ≤ i → i < k + n → ¬ z < f (83 + 4 * i)) := by
  intro n
  induction n with
  | zero => intro k; exact ⟨fun j h => (nomatch h), fun _ i h1 h2 => absurd h2 (by omega)⟩
  | succ n ih =>
    intro k
    rw [xNx_s]
    by_cases q : z < f (83 + 4 * k)
    · rw [if_pos q]
      exact ⟨fun j h i h1 h2 => absurd h2 (by cases h; omega), fun h => (nomatch h)⟩
    · rw [if_neg q]
      refine ⟨fun j h i h1 h2 => ?_, fun h i h1 h2 => ?_⟩
      · by_cases r : i = k
        · subst r; exact q
        · exact (ih (k := k + 1)).1 j h i (by omega) h2
      · by_cases r : i = k
        · subst r; exact q
        · exact (ih (k := k + 1)).2 h i (by omega) (by omega)
/-- the lights above one, in order -/
def qAb (f : Nat → Int32) (z : Int32) (n : Nat) : List Nat := (List.range n).filter (fun k => decide (z < f (83 + 4 * k)))
theorem qAb_0 {f : Nat → Int32} {z : Int32} {n : Nat} (h : xNx f z n 0 = none) : qAb f z n = [] := by
  refine List.eq_nil_iff_forall_not_mem.mpr (fun x hx => ?_)
  have := List.mem_filter.mp hx
  exact (xNx_min (n := n) (k := 0)).2 h x (by omega) (by have := List.mem_range.mp this.1; omega) (by simpa using this.2)
theorem qAb_h {f : Nat → Int32} {z : Int32} {n k : Nat} (h : xNx f z n 0 = some k) : (qAb f z n).getD 0 0 = k ∧ 0 < (qAb f z n).length := by
  obtain ⟨-, h2, h3⟩ := xNx_lt _ _ _ h
  have hm : k ∈ qAb f z n := List.mem_filter.mpr ⟨List.mem_range.mpr (by omega), by simpa using h3⟩
  rcases e : qAb f z n with _ | ⟨a, t⟩
  · rw [e] at hm; simp at hm
  · refine ⟨?_, by simp⟩
    have hs : (a :: t).Pairwise (· < ·) := e ▸ range_srt
    rw [e] at hm
    have ha : a ∈ qAb f z n := by rw [e]; simp
    have ha2 := List.mem_filter.mp ha
    rcases List.mem_cons.mp hm with q | q
    · simp [q]
    · have := (List.pairwise_cons.mp hs).1 k q
      exact absurd (by simpa using ha2.2) ((xNx_min (n := n) (k := 0)).1 k h a (by omega) this)
/-! bars at the height 0 -/
def qLow (f : Nat → Int32) (n : Nat) : List Nat := (List.range n).filter (fun k => decide (f (11 + 4 * k) = 0))
theorem qLow_s {f : Nat → Int32} {n : Nat} : qLow f (n + 1) = if f (11 + 4 * n) = 0 then qLow f n ++ [n] else qLow f n := by
  unfold qLow
  rw [List.range_succ, List.filter_append]
  by_cases q : f (11 + 4 * n) = 0 <;> simp [q]
theorem qLow_lt {f : Nat → Int32} {n x : Nat} (h : x ∈ qLow f n) : x < n := List.mem_range.mp (List.mem_filter.mp h).1
/-- bar x carries curtain c better than bar y -/
def qBt (f : Nat → Int32) (nc c x y : Nat) : Bool := decide (if mWith f nc x c ≠ mWith f nc y c then mWith f nc x c < mWith f nc y c else if f (13 + 4 * x) ≠ f (13 + 4 * y) then f (13 + 4 * x) < f (13 + 4 * y) else nI x < nI y)
theorem qBt_i {f : Nat → Int32} {nc c x y : Nat} : qBt f nc c x y = true ↔ (if mWith f nc x c ≠ mWith f nc y c then mWith f nc x c < mWith f nc y c else if f (13 + 4 * x) ≠ f (13 + 4 * y) then f (13 + 4 * x) < f (13 + 4 * y) else nI x < nI y) := decide_eq_true_iff
theorem lex_t {A B U V X Y : Int32} (l1 : X < Y) : ¬ (if A ≠ B then A < B else if U ≠ V then U < V else X < Y) ↔ (if B ≠ A then B < A else if V ≠ U then V < U else Y < X) := by
  have l2 : ¬ Y < X := Int32.lt_asymm l1
  by_cases q : A = B
  · subst q
    by_cases r : U = V
    · subst r
      simp only [ne_eq, not_true_eq_false, if_false]
      exact ⟨fun z => absurd l1 z, fun z => absurd z l2⟩
    · have r2 : ¬ V = U := fun z => r z.symm
      simp only [ne_eq, not_true_eq_false, if_false, r, r2, not_false_eq_true, if_true]
      exact ⟨fun z => Int32.lt_of_le_of_ne (Int32.not_lt.mp z) r2, fun z => Int32.lt_asymm z⟩
  · have q2 : ¬ B = A := fun z => q z.symm
    simp only [ne_eq, q, q2, not_false_eq_true, if_true]
    exact ⟨fun z => Int32.lt_of_le_of_ne (Int32.not_lt.mp z) q2, fun z => Int32.lt_asymm z⟩
theorem qBt_t {f : Nat → Int32} {nc c x y : Nat} (h : x < y) (hy : y < 8) : ¬ qBt f nc c x y = true ↔ qBt f nc c y x = true := by
  rw [qBt_i, qBt_i]; exact lex_t (nI_lt h (by omega))
theorem mWith_b {f : Nat → Int32} {nc c i : Nat} (hc : c < nc) (hn : nc ≤ 12) (h : ∀ k, k < nc → xN (f (43 + 2 * k)) 90) (hw : xN (f (12 + 4 * i)) 20) : xN (mWith f nc i c) 2000 := by
  obtain ⟨l, hl1, hl2⟩ := mLoad_b (x := nI i) h hn
  obtain ⟨w, hw1, hw2⟩ := hw
  obtain ⟨u, hu1, hu2⟩ := h c hc
  obtain ⟨v, hv1, hv2⟩ : xN (if f (44 + 2 * c) = nI i then 0 else f (43 + 2 * c)) 90 := by
    split
    · exact ⟨0, by omega, nI_0.symm⟩
    · exact ⟨u, hu1, hu2⟩
  unfold mWith
  rw [hl2, hv2, hw2, nI_add, nI_10, mAbs_sub (by omega) (by omega)]
  exact ⟨_, by omega, rfl⟩
/-- the reference's way to ask it -/
theorem qBt_r {f : Nat → Int32} {nc c x y : Nat} (h : y < x) (hx : x < 8) (h1 : xN (mWith f nc x c) 2000) (h2 : xN (mWith f nc y c) 2000) (h3 : xN (f (13 + 4 * x)) 1000000) (h4 : xN (f (13 + 4 * y)) 1000000) : qBt f nc c x y = true ↔ 0 < (if mWith f nc y c - mWith f nc x c ≠ 0 then mWith f nc y c - mWith f nc x c else f (13 + 4 * y) - f (13 + 4 * x)) := by
  obtain ⟨a, ha, ea⟩ := h1
  obtain ⟨b, hb, eb⟩ := h2
  obtain ⟨u, hu, eu⟩ := h3
  obtain ⟨v, hv, ev⟩ := h4
  have key : ∀ {p q : Nat}, p ≤ 1000000 → q ≤ 1000000 → ((0 : Int32) < nI p - nI q ↔ q < p) ∧ (nI p - nI q = 0 ↔ p = q) := by
    intro p q hp hq
    by_cases r : q ≤ p
    · rw [pk_sub r, ← nI_0, nI_ltI (by omega) (by omega), nI_eq (by omega) (by omega)]
      omega
    · have z := pk_sneg (a := p) (b := q) (by omega) (by omega)
      refine ⟨⟨fun w => absurd w (Int32.lt_asymm z), fun w => by omega⟩, ⟨fun w => ?_, fun w => by omega⟩⟩
      rw [w] at z; exact absurd z (by decide)
  rw [qBt_i, ea, eb, eu, ev]
  have k1 := key (p := b) (q := a) (by omega) (by omega)
  have k2 := key (p := v) (q := u) (by omega) (by omega)
  by_cases q : a = b
  · subst q
    simp only [ne_eq, not_true_eq_false, if_false, Int32.sub_self, k2.1]
    by_cases r : u = v
    · subst r
      simp only [not_true_eq_false, if_false]
      rw [nI_ltI (by omega) (by omega)]; omega
    · rw [if_pos (fun z => r ((nI_eq (by omega) (by omega)).mp z)), nI_ltI (by omega) (by omega)]
  · rw [if_pos (fun z => q ((nI_eq (by omega) (by omega)).mp z)), if_pos (fun z => q (k1.2.mp z).symm), k1.1, nI_ltI (by omega) (by omega)]
/-- the best of a list -/
def qBl (f : Nat → Int32) (nc c : Nat) (l : List Nat) : Nat → Option Nat
  | 0 => none
  | m + 1 => match qBl f nc c l m with
    | none => some (l.getD m 0)
    | some b => if qBt f nc c (l.getD m 0) b = true then some (l.getD m 0) else some b
theorem qBl_c {f : Nat → Int32} {nc c : Nat} {l l' : List Nat} : ∀ {m : Nat}, (∀ i, i < m → l.getD i 0 = l'.getD i 0) → qBl f nc c l m = qBl f nc c l' m := by
  intro m
  induction m with
  | zero => intro _; rfl
  | succ m ih => intro h; simp only [qBl]; rw [ih (fun i hi => h i (by omega)), h m (by omega)]
theorem qBl_lt {f : Nat → Int32} {nc c : Nat} {l : List Nat} : ∀ {m b : Nat}, qBl f nc c l m = some b → ∃ i, i < m ∧ b = l.getD i 0 := by
  intro m
  induction m with
  | zero => intro b h; cases h
  | succ m ih =>
    intro b h
    simp only [qBl] at h
    split at h
    · cases h; exact ⟨m, by omega, rfl⟩
    · rename_i b' hb
      split at h
      · cases h; exact ⟨m, by omega, rfl⟩
      · cases h
        obtain ⟨i, h1, h2⟩ := ih hb
        exact ⟨i, by omega, h2⟩
theorem qBB_l {f : Nat → Int32} {nc c n : Nat} (hn : n ≤ 8) (h1 : ∀ i, i < n → xN (mWith f nc i c) 2000) (h2 : ∀ i, i < n → xN (f (13 + 4 * i)) 1000000) : qBB f nc c n = qBl f nc c (qLow f n) (qLow f n).length := by
  induction n with
  | zero => rfl
  | succ n ih =>
    have ih := ih (by omega) (fun i hi => h1 i (by omega)) (fun i hi => h2 i (by omega))
    rw [qBB_s, ih]
    by_cases q : f (11 + 4 * n) = 0
    · have eL : qLow f (n + 1) = qLow f n ++ [n] := by rw [qLow_s, if_pos q]
      rw [eL, List.length_append, List.length_singleton]
      have e1 : qBl f nc c (qLow f n ++ [n]) (qLow f n).length = qBl f nc c (qLow f n) (qLow f n).length := by
        refine qBl_c (fun i hi => ?_)
        simp [List.getD, List.getElem?_append_left hi]
      have e2 : (qLow f n ++ [n]).getD (qLow f n).length 0 = n := by simp [List.getD]
      simp only [qBl, e1, e2]
      rcases e : qBl f nc c (qLow f n) (qLow f n).length with _ | b
      · simp [q]
      · have hb : b < n := qBB_lt (ih.trans e)
        have := qBt_r (f := f) (nc := nc) (c := c) (x := n) (y := b) hb (by omega) (h1 n (by omega)) (h1 b (by omega)) (h2 n (by omega)) (h2 b (by omega))
        simp only [this, q, true_and]
    · have eL : qLow f (n + 1) = qLow f n := by rw [qLow_s, if_neg q]
      rw [eL]
      rcases e : qBl f nc c (qLow f n) (qLow f n).length with _ | b
      · simp [q]
      · simp [q]
