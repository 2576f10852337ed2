/-! ===== THE G-LAYER: calls, returns, throws (g_back, g_backW follow vx_back, vx_backW of the kit's EXCEPTIONS text) ===== -/
section GCALLS
variable {K : gK} {p : Program} {e : Env} {s : State} {m : MethodId} {args : Array Value} {below : List Frame} {meth : Method} {c : Code} {R : Room} {nL : Nat} {post : gRes → AH → Prop} {h : AH} {b bs pc : Nat} {lv : List (Nat × Value)} {st : List Value} {cc : ByteArray} {own : String} {ret : Option FieldType}
def gPreA (K : gK) (R : Room) (mc ms : Nat) (h0 : AH) (av : List Value) : Pt → Array Value → Prop := fun A a => A.cells + mc ≤ R.cells ∧ A.slots + ms ≤ R.slots ∧ gPre K h0 av a A.U
def gPostA (K : gK) (mc ms : Nat) (post : gRes → AH → Prop) : Pt → Array Value → Option Value → Pt → Prop := fun A _ v B => ∃ (h1 : AH) (L : List Loc), post (.inl v) h1 ∧ gH K h1 B.U.heap ∧ va_F (gA K) A.U B.U ∧ B.locs = A.locs ++ L ∧ (∀ q ∈ L, gA K q.base) ∧ B.cells = A.cells + mc ∧ B.slots = A.slots + ms
def gPostX (K : gK) (mc ms : Nat) (post : gRes → AH → Prop) : Pt → Array Value → Addr → Pt → Prop := fun A _ q B => ∃ (h1 : AH) (L : List Loc), post (.inr q) h1 ∧ gOld K q = none ∧ gH K h1 B.U.heap ∧ va_F (gA K) A.U B.U ∧ B.locs = A.locs ++ L ∧ (∀ q ∈ L, gA K q.base) ∧ B.cells = A.cells + mc ∧ B.slots = A.slots + ms
theorem g_back {y : MethodName} {len f lo mc ms : Nat} {h0 : AH} {av : List Value} {post : gRes → AH → Prop} {bytes : ByteArray} {maxL : Nat} {ret : Option FieldType} {w0 : Cond} (hw0 : w0 = Cond.code y bytes maxL ret) (hM : gCt K y w0 f lo mc ms h0 av post)
    (hframes : f + 1 ≤ R.frames) (hlocals0 : 8 + (maxL + 11) + lo ≤ R.locals) (hts : ∀ w ∈ lw_all, w.before args s = true) (hw1 : w0 ∈ lw_all) (hini : Cond.initialized y.cls ∈ lw_all) :
    vx_Back K.1 R p e below s args y len 8 (gPreA K R mc ms h0 av) (gPostA K mc ms post) (gPostX K mc ms post) := by
  have hws : ∀ w ∈ w0 :: lw_all, ∀ (a' : Array Value) (U : State), s.WarmedH U.vm → w.before a' U = true := by
    intro w hw a' U hW
    have hw2 : w ∈ lw_all := by
      rcases List.mem_cons.mp hw with q | q
      · rw [q]; exact hw1
      · exact q
    exact word_at hW (good_of_word (List.mem_filter.mp hw2).2) (hts w hw2)
  have hinit : ∀ (a' : Array Value) (U : State), s.WarmedH U.vm → (Cond.initialized y.cls).before a' U = true := fun a' U hW => word_at hW (good_of_word (List.mem_filter.mp hini).2) (hts _ hini)
  subst hw0
  intro m meth c A g ig mk a X hg hsize hdg hW hn hp
  have h1 : (headSpec ((Cond.code y bytes maxL ret) :: lw_all) (gRm f lo mc ms)).pre.before a A.U = true := atoms_intro fun w hw => hws w hw _ _ X.warmed
  have h2 : (Cond.code y bytes maxL ret).before a A.U = true := hws _ List.mem_cons_self _ _ X.warmed
  have h3 : (Cond.initialized y.cls).before a A.U = true := hinit _ _ X.warmed
  have h4 : A.cells + (headSpec ((Cond.code y bytes maxL ret) :: lw_all) (gRm f lo mc ms)).room.cells ≤ R.cells := hp.1
  have h5 : A.slots + (headSpec ((Cond.code y bytes maxL ret) :: lw_all) (gRm f lo mc ms)).room.slots ≤ R.slots := hp.2.1
  have hPc : gPre K h0 av a (A.U.calling g mk a) := gPre.blind _ _ _ _ hp.2.2
  obtain ⟨U, Ls, c0, s0⟩ := A
  dsimp only [Pt.U, Pt.locs, Pt.cells, Pt.slots] at h1 h2 h3 h4 h5 X hn hPc ⊢
  obtain ⟨methY, cY, hmY, hcY, -, hlY, -, -, -, -⟩ := Cond.code_spec hn h2
  obtain ⟨kY, hkY, -⟩ := className_of_methodNamed hn
  have hinitY : kY.init = .initialized := Cond.initialized_spec (findClass_of_methodNamed hn) hkY h3
  have h : At U g.method c below := by rw [hg]; exact X.here
  have hlocals9 : 8 + (maxL + 11) + (headSpec ((Cond.code y bytes maxL ret) :: lw_all) (gRm f lo mc ms)).room.locals ≤ R.locals := hlocals0
  have happ : (headSpec ((Cond.code y bytes maxL ret) :: lw_all) (gRm f lo mc ms)).appliesLoose y e.platform (U.calling g mk a) = true :=
    Spec.appliesLoose_calling (g := g) h hdg hn hkY hinitY
      (X.room_calling (g := g) (R' := (headSpec ((Cond.code y bytes maxL ret) :: lw_all) (gRm f lo mc ms)).room) hsize hmY hcY hframes (by rw [hlY]; omega) h4 h5) h1
  obtain ⟨mid, hmid⟩ := h.above
  have hfr : (U.setTop g).frames = (.java g :: mid) ++ below := by rw [State.frames_setTop' g h.top, hmid]; rfl
  obtain ⟨o, s₂, hsteps, -, hend, hq⟩ := Steps.callFree hM p X.admits X.cas X.clock (acts := []) hfr happ hPc trivial
  have hq' : gQ K post mc ms (U.calling g mk a) o s₂ := hq
  rw [State.frames_setTop' g h.top] at hend
  obtain ⟨g₀, hg0⟩ := Option.isSome_iff_exists.mp h.top
  obtain ⟨r, hr⟩ := State.topJava?_eq_some.mp hg0
  have hr' : (({ U with heap := s₂.heap, slotsUsed := s₂.slotsUsed } : State).setVm s₂.vm).frames = .java g₀ :: r := hr
  rcases hq' with ⟨v, h1q, e0, hqc, hHq, hFq, L, hfe, hL⟩ | ⟨q, h1q, rfl, hqc, hoq, hHq, hFq, hW₂, L, hsm, hL⟩
  · subst e0
    obtain ⟨⟨v9, hvv⟩, hW₂, e2, q2, q3, q4, q5, q6⟩ := id hfe
    have e3 : s₂ = ({ (U.calling g mk a).setFrames s₂.frames with heap := s₂.heap, slotsUsed := s₂.slotsUsed } : State).setVm s₂.vm := by
      have : s₂ = ({ s₂ with vm := (U.calling g mk a).vm } : State).setVm s₂.vm := rfl
      rw [e2] at this
      exact this
    obtain ⟨c₂, i₂, len₂, hc₂, hd₂, hf₂⟩ := hend
    have hW' : U.WarmedH s₂.vm := hW₂
    have hcc : c₂ = c := by
      have h1 : s₂.code? g.method = U.code? g.method := by
        rw [State.code?_eq, State.code?_eq, hW'.alike.method?]
      exact Option.some.inj (hc₂.symm.trans (h1.trans h.code))
    subst hcc
    have hlen : len₂ = len := by rw [hdg] at hd₂; cases hd₂; rfl
    subst hlen
    have hs₂ : s₂ = (({ U with heap := s₂.heap, slotsUsed := s₂.slotsUsed } : State).setVm s₂.vm).setTop { g with pc := g.pc + len₂, stack := v.toList ++ g.stack } := by
      refine e3.trans ?_
      rw [hf₂, State.calling_eq h.top, State.setFrames_setFrames, State.setTop_of_frames _ hr', hr]
      rfl
    have hsame : U.sameButNew ({ U with heap := s₂.heap, slotsUsed := s₂.slotsUsed } : State) L mc ms := by
      refine ⟨?_, q2, q3, q4, q5, q6⟩
      obtain ⟨t, ht, -⟩ := State.frames_cons hr
      show ({ U with heap := s₂.heap, slotsUsed := s₂.slotsUsed } : State) = { U.setFrames U.frames with heap := s₂.heap, slotsUsed := s₂.slotsUsed }
      rw [State.setFrames_self ht]
    subst hg
    refine Or.inl ⟨v, ⟨(({ U with heap := s₂.heap, slotsUsed := s₂.slotsUsed } : State).setVm s₂.vm), Ls ++ L, c0 + mc, s0 + ms⟩,
      ⟨X.admits, X.cas, X.clock, X.frames, X.room, X.hears, X.method, X.code, (X.here.setHeapUsed s₂.heap s₂.slotsUsed).setVm hW'.alike, X.tail, State.WarmedH.trans X.warmed hW', X.limits, X.bytes, X.same.trans (hsame.setVm s.vm)⟩,
      ⟨h1q, L, hqc, hHq, hFq, rfl, hL, rfl, rfl⟩, ?_⟩
    show Steps p.tables e below _ ((({ U with heap := s₂.heap, slotsUsed := s₂.slotsUsed } : State).setVm s₂.vm).setTop { g with pc := g.pc + len₂, stack := v.toList ++ g.stack })
    rw [← hs₂]
    exact hsteps
  · obtain ⟨e2, q2, q3, q4, q5, q6⟩ := id hsm
    have e3 : s₂ = ({ (U.calling g mk a).setFrames s₂.frames with heap := s₂.heap, slotsUsed := s₂.slotsUsed } : State).setVm s₂.vm := by
      have : s₂ = ({ s₂ with vm := (U.calling g mk a).vm } : State).setVm s₂.vm := rfl
      rw [e2] at this
      exact this
    have hf₂ : s₂.frames = .throwing q :: .java g :: U.frames.tail := hend
    have hW' : U.WarmedH s₂.vm := hW₂
    have hs₂ : s₂ = ((({ U with heap := s₂.heap, slotsUsed := s₂.slotsUsed } : State).setVm s₂.vm).setTop g).pushFrame (.throwing q) := by
      refine e3.trans ?_
      rw [hf₂, State.calling_eq h.top, State.setFrames_setFrames, State.pushFrame, State.frames_setTop _ hr', State.setTop_of_frames _ hr', State.setFrames_setFrames, hr]
      rfl
    have hsame : U.sameButNew ({ U with heap := s₂.heap, slotsUsed := s₂.slotsUsed } : State) L mc ms := by
      refine ⟨?_, q2, q3, q4, q5, q6⟩
      obtain ⟨t, ht, -⟩ := State.frames_cons hr
      show ({ U with heap := s₂.heap, slotsUsed := s₂.slotsUsed } : State) = { U.setFrames U.frames with heap := s₂.heap, slotsUsed := s₂.slotsUsed }
      rw [State.setFrames_self ht]
    subst hg
    refine Or.inr ⟨q, ⟨(({ U with heap := s₂.heap, slotsUsed := s₂.slotsUsed } : State).setVm s₂.vm), Ls ++ L, c0 + mc, s0 + ms⟩,
      ⟨X.admits, X.cas, X.clock, X.frames, X.room, X.hears, X.method, X.code, (X.here.setHeapUsed s₂.heap s₂.slotsUsed).setVm hW'.alike, X.tail, State.WarmedH.trans X.warmed hW', X.limits, X.bytes, X.same.trans (hsame.setVm s.vm)⟩,
      ⟨h1q, L, hqc, hoq, hHq, hFq, rfl, hL, rfl, rfl⟩, ?_⟩
    show Steps p.tables e below _ (((({ U with heap := s₂.heap, slotsUsed := s₂.slotsUsed } : State).setVm s₂.vm).setTop g).pushFrame (.throwing q))
    rw [← hs₂]
    exact hsteps
theorem g_backW {y : MethodName} {len f lo mc ms : Nat} {h0 : AH} {av : List Value} {post : gRes → AH → Prop} {bytes : ByteArray} {maxL : Nat} {ret : Option FieldType} {hh : List (Nat × Nat × Nat × Nat)} {w0 : Cond} (hw0 : w0 = Cond.codeWith y bytes maxL ret hh) (hM : gCt K y w0 f lo mc ms h0 av post)
    (hframes : f + 1 ≤ R.frames) (hlocals0 : 8 + (maxL + 11) + lo ≤ R.locals) (hts : ∀ w ∈ lw_all, w.before args s = true) (hw1 : w0 ∈ lw_all) (hini : Cond.initialized y.cls ∈ lw_all) :
    vx_Back K.1 R p e below s args y len 8 (gPreA K R mc ms h0 av) (gPostA K mc ms post) (gPostX K mc ms post) := by
  have hws : ∀ w ∈ w0 :: lw_all, ∀ (a' : Array Value) (U : State), s.WarmedH U.vm → w.before a' U = true := by
    intro w hw a' U hW
    have hw2 : w ∈ lw_all := by
      rcases List.mem_cons.mp hw with q | q
      · rw [q]; exact hw1
      · exact q
    exact word_at hW (good_of_word (List.mem_filter.mp hw2).2) (hts w hw2)
  have hinit : ∀ (a' : Array Value) (U : State), s.WarmedH U.vm → (Cond.initialized y.cls).before a' U = true := fun a' U hW => word_at hW (good_of_word (List.mem_filter.mp hini).2) (hts _ hini)
  subst hw0
  intro m meth c A g ig mk a X hg hsize hdg hW hn hp
  have h1 : (headSpec ((Cond.codeWith y bytes maxL ret hh) :: lw_all) (gRm f lo mc ms)).pre.before a A.U = true := atoms_intro fun w hw => hws w hw _ _ X.warmed
  have h2 : (Cond.codeWith y bytes maxL ret hh).before a A.U = true := hws _ List.mem_cons_self _ _ X.warmed
  have h3 : (Cond.initialized y.cls).before a A.U = true := hinit _ _ X.warmed
  have h4 : A.cells + (headSpec ((Cond.codeWith y bytes maxL ret hh) :: lw_all) (gRm f lo mc ms)).room.cells ≤ R.cells := hp.1
  have h5 : A.slots + (headSpec ((Cond.codeWith y bytes maxL ret hh) :: lw_all) (gRm f lo mc ms)).room.slots ≤ R.slots := hp.2.1
  have hPc : gPre K h0 av a (A.U.calling g mk a) := gPre.blind _ _ _ _ hp.2.2
  obtain ⟨U, Ls, c0, s0⟩ := A
  dsimp only [Pt.U, Pt.locs, Pt.cells, Pt.slots] at h1 h2 h3 h4 h5 X hn hPc ⊢
  obtain ⟨m9, methY, cY, hn9, hmY, hcY, -, hlY, -⟩ := Cond.codeWith_spec h2
  cases Option.some.inj (hn9.symm.trans hn)
  obtain ⟨kY, hkY, -⟩ := className_of_methodNamed hn
  have hinitY : kY.init = .initialized := Cond.initialized_spec (findClass_of_methodNamed hn) hkY h3
  have h : At U g.method c below := by rw [hg]; exact X.here
  have hlocals9 : 8 + (maxL + 11) + (headSpec ((Cond.codeWith y bytes maxL ret hh) :: lw_all) (gRm f lo mc ms)).room.locals ≤ R.locals := hlocals0
  have happ : (headSpec ((Cond.codeWith y bytes maxL ret hh) :: lw_all) (gRm f lo mc ms)).appliesLoose y e.platform (U.calling g mk a) = true :=
    Spec.appliesLoose_calling (g := g) h hdg hn hkY hinitY
      (X.room_calling (g := g) (R' := (headSpec ((Cond.codeWith y bytes maxL ret hh) :: lw_all) (gRm f lo mc ms)).room) hsize hmY hcY hframes (by rw [hlY]; omega) h4 h5) h1
  obtain ⟨mid, hmid⟩ := h.above
  have hfr : (U.setTop g).frames = (.java g :: mid) ++ below := by rw [State.frames_setTop' g h.top, hmid]; rfl
  obtain ⟨o, s₂, hsteps, -, hend, hq⟩ := Steps.callFree hM p X.admits X.cas X.clock (acts := []) hfr happ hPc trivial
  have hq' : gQ K post mc ms (U.calling g mk a) o s₂ := hq
  rw [State.frames_setTop' g h.top] at hend
  obtain ⟨g₀, hg0⟩ := Option.isSome_iff_exists.mp h.top
  obtain ⟨r, hr⟩ := State.topJava?_eq_some.mp hg0
  have hr' : (({ U with heap := s₂.heap, slotsUsed := s₂.slotsUsed } : State).setVm s₂.vm).frames = .java g₀ :: r := hr
  rcases hq' with ⟨v, h1q, e0, hqc, hHq, hFq, L, hfe, hL⟩ | ⟨q, h1q, rfl, hqc, hoq, hHq, hFq, hW₂, L, hsm, hL⟩
  · subst e0
    obtain ⟨⟨v9, hvv⟩, hW₂, e2, q2, q3, q4, q5, q6⟩ := id hfe
    have e3 : s₂ = ({ (U.calling g mk a).setFrames s₂.frames with heap := s₂.heap, slotsUsed := s₂.slotsUsed } : State).setVm s₂.vm := by
      have : s₂ = ({ s₂ with vm := (U.calling g mk a).vm } : State).setVm s₂.vm := rfl
      rw [e2] at this
      exact this
    obtain ⟨c₂, i₂, len₂, hc₂, hd₂, hf₂⟩ := hend
    have hW' : U.WarmedH s₂.vm := hW₂
    have hcc : c₂ = c := by
      have h1 : s₂.code? g.method = U.code? g.method := by
        rw [State.code?_eq, State.code?_eq, hW'.alike.method?]
      exact Option.some.inj (hc₂.symm.trans (h1.trans h.code))
    subst hcc
    have hlen : len₂ = len := by rw [hdg] at hd₂; cases hd₂; rfl
    subst hlen
    have hs₂ : s₂ = (({ U with heap := s₂.heap, slotsUsed := s₂.slotsUsed } : State).setVm s₂.vm).setTop { g with pc := g.pc + len₂, stack := v.toList ++ g.stack } := by
      refine e3.trans ?_
      rw [hf₂, State.calling_eq h.top, State.setFrames_setFrames, State.setTop_of_frames _ hr', hr]
      rfl
    have hsame : U.sameButNew ({ U with heap := s₂.heap, slotsUsed := s₂.slotsUsed } : State) L mc ms := by
      refine ⟨?_, q2, q3, q4, q5, q6⟩
      obtain ⟨t, ht, -⟩ := State.frames_cons hr
      show ({ U with heap := s₂.heap, slotsUsed := s₂.slotsUsed } : State) = { U.setFrames U.frames with heap := s₂.heap, slotsUsed := s₂.slotsUsed }
      rw [State.setFrames_self ht]
    subst hg
    refine Or.inl ⟨v, ⟨(({ U with heap := s₂.heap, slotsUsed := s₂.slotsUsed } : State).setVm s₂.vm), Ls ++ L, c0 + mc, s0 + ms⟩,
      ⟨X.admits, X.cas, X.clock, X.frames, X.room, X.hears, X.method, X.code, (X.here.setHeapUsed s₂.heap s₂.slotsUsed).setVm hW'.alike, X.tail, State.WarmedH.trans X.warmed hW', X.limits, X.bytes, X.same.trans (hsame.setVm s.vm)⟩,
      ⟨h1q, L, hqc, hHq, hFq, rfl, hL, rfl, rfl⟩, ?_⟩
    show Steps p.tables e below _ ((({ U with heap := s₂.heap, slotsUsed := s₂.slotsUsed } : State).setVm s₂.vm).setTop { g with pc := g.pc + len₂, stack := v.toList ++ g.stack })
    rw [← hs₂]
    exact hsteps
  · obtain ⟨e2, q2, q3, q4, q5, q6⟩ := id hsm
    have e3 : s₂ = ({ (U.calling g mk a).setFrames s₂.frames with heap := s₂.heap, slotsUsed := s₂.slotsUsed } : State).setVm s₂.vm := by
      have : s₂ = ({ s₂ with vm := (U.calling g mk a).vm } : State).setVm s₂.vm := rfl
      rw [e2] at this
      exact this
    have hf₂ : s₂.frames = .throwing q :: .java g :: U.frames.tail := hend
    have hW' : U.WarmedH s₂.vm := hW₂
    have hs₂ : s₂ = ((({ U with heap := s₂.heap, slotsUsed := s₂.slotsUsed } : State).setVm s₂.vm).setTop g).pushFrame (.throwing q) := by
      refine e3.trans ?_
      rw [hf₂, State.calling_eq h.top, State.setFrames_setFrames, State.pushFrame, State.frames_setTop _ hr', State.setTop_of_frames _ hr', State.setFrames_setFrames, hr]
      rfl
    have hsame : U.sameButNew ({ U with heap := s₂.heap, slotsUsed := s₂.slotsUsed } : State) L mc ms := by
      refine ⟨?_, q2, q3, q4, q5, q6⟩
      obtain ⟨t, ht, -⟩ := State.frames_cons hr
      show ({ U with heap := s₂.heap, slotsUsed := s₂.slotsUsed } : State) = { U.setFrames U.frames with heap := s₂.heap, slotsUsed := s₂.slotsUsed }
      rw [State.setFrames_self ht]
    subst hg
    refine Or.inr ⟨q, ⟨(({ U with heap := s₂.heap, slotsUsed := s₂.slotsUsed } : State).setVm s₂.vm), Ls ++ L, c0 + mc, s0 + ms⟩,
      ⟨X.admits, X.cas, X.clock, X.frames, X.room, X.hears, X.method, X.code, (X.here.setHeapUsed s₂.heap s₂.slotsUsed).setVm hW'.alike, X.tail, State.WarmedH.trans X.warmed hW', X.limits, X.bytes, X.same.trans (hsame.setVm s.vm)⟩,
      ⟨h1q, L, hqc, hoq, hHq, hFq, rfl, hL, rfl, rfl⟩, ?_⟩
    show Steps p.tables e below _ (((({ U with heap := s₂.heap, slotsUsed := s₂.slotsUsed } : State).setVm s₂.vm).setTop g).pushFrame (.throwing q))
    rw [← hs₂]
    exact hsteps
theorem g_fin {T : State} {H : Heap} {locs : List Loc} {ls : Array Slot} {kc ks len mc ms : Nat} {postc : gRes → AH → Prop} {a : Array Value} {st0 : List Value} (hT : T.heap = H) (hS : va_S (gA K) s.heap H locs) (hl : lv_has ls nL lv) (hb : kc + (b + mc) ≤ R.cells) (hbs : ks + (bs + ms) ≤ R.slots)
    (kk : ∀ (v : Option Value) (h1 : AH), postc (.inl v) h1 → G K p e s m args below meth c R nL post h1 b bs (pc + len) lv (v.toList ++ st)) (kx : ∀ (q : Nat) (h1 : AH), postc (.inr q) h1 → gOld K q = none → GX K p e s m args below meth c R nL post h1 b bs pc lv q)
    (hor : (∃ (v : Option Value) (vm₁ : Vm) (B : Pt), s.WarmedH vm₁ ∧ Stand p K.1 e R s m args below meth c B.U B.locs B.cells B.slots ∧ gPostA K mc ms postc ⟨T.setVm vm₁, locs, kc, ks⟩ a v B ∧
      ∀ target, Steps p.tables e below (B.U.setTop { (F0 m pc ls st0) with pc := (F0 m pc ls st0).pc + len, stack := v.toList ++ st }) target → Steps p.tables e below (T.setTop (F0 m pc ls st0)) target) ∨
    (∃ (q : Addr) (vm₁ : Vm) (B : Pt), s.WarmedH vm₁ ∧ Stand p K.1 e R s m args below meth c B.U B.locs B.cells B.slots ∧ gPostX K mc ms postc ⟨T.setVm vm₁, locs, kc, ks⟩ a q B ∧
      Steps p.tables e below (T.setTop (F0 m pc ls st0)) ((B.U.setTop { (F0 m pc ls st0) with stack := st }).pushFrame (.throwing q)))) :
    ∃ t, Steps p.tables e below (T.setTop (F0 m pc ls st0)) t ∧ gMQ K below post s R t := by
  have key : ∀ {U0 U : State} {L : List Loc}, U0.heap = H → va_F (gA K) U0 U → (∀ q ∈ L, gA K q.base) → va_S (gA K) s.heap U.heap (locs ++ L) := by
    intro U0 U L h0 hF hL
    obtain ⟨f1, f2⟩ := hF
    rw [h0] at f1 f2
    refine ⟨Nat.le_trans hS.1 f1, fun q h1 h2 => ?_, fun q hq => ?_⟩
    · rw [f2 q (Nat.lt_of_lt_of_le h1 hS.1) h2]
      exact hS.2.1 q h1 h2
    · rcases List.mem_append.mp hq with z | z
      · exact hS.2.2 q z
      · exact hL q z
  rcases hor with ⟨v, vm₁, ⟨U', l2, c2, s2⟩, hW₁, X', ⟨h1, L, hp, hHq, hFq, e1, hL, e2, e3⟩, stp⟩ | ⟨q, vm₁, ⟨U', l2, c2, s2⟩, hW₁, X', ⟨h1, L, hp, ho, hHq, hFq, e1, hL, e2, e3⟩, stp⟩
  · dsimp only [Pt.U, Pt.locs, Pt.cells, Pt.slots] at X' e1 e2 e3 hHq hFq stp
    subst e1; subst e2; subst e3
    obtain ⟨t, a1, b1⟩ := kk v h1 hp U'.heap _ ls (kc + mc) (ks + ms) hHq (key (U0 := T.setVm vm₁) hT hFq hL) hl (by omega) (by omega) U' rfl X'
    exact ⟨t, stp t a1, b1⟩
  · dsimp only [Pt.U, Pt.locs, Pt.cells, Pt.slots] at X' e1 e2 e3 hHq hFq stp
    subst e1; subst e2; subst e3
    obtain ⟨t, a1, b1⟩ := kx q h1 hp ho U'.heap _ ls (kc + mc) (ks + ms) st hHq (key (U0 := T.setVm vm₁) hT hFq hL) hl (by omega) (by omega) U' rfl X'
    exact ⟨t, stp.trans a1, b1⟩
/-- what a method is known by: its word, its locals, the number of its parameters -/
def gMi (y : MethodName) (w0 : Cond) (maxL n : Nat) : Prop := ((∃ (bytes : ByteArray) (r : Option FieldType), w0 = Cond.code y bytes maxL r) ∨ (∃ (bytes : ByteArray) (r : Option FieldType) (hh : List (Nat × Nat × Nat × Nat)), w0 = Cond.codeWith y bytes maxL r hh)) ∧ w0 ∈ lw_all ∧ Cond.initialized y.cls ∈ lw_all ∧ (y.cls ≠ "java/lang/invoke/MethodHandle" ∧ y.cls ≠ "java/lang/invoke/VarHandle") ∧ (parseMethodDescriptor y.desc).map (fun d => d.parameters.length) = some n
theorem gMi.len {y : MethodName} {w0 : Cond} {maxL n : Nat} (h : gMi y w0 maxL n) {As : List Value} (hn : As.length = n) : ∀ sig, parseMethodDescriptor y.desc = some sig → As.length = sig.parameters.length := by
  intro sig hs
  have h2 := h.2.2.2.2
  rw [hs] at h2
  rw [hn]
  exact (Option.some.inj h2).symm
theorem gMi.back {y : MethodName} {w0 : Cond} {maxL n len f lo mc ms : Nat} {h0 : AH} {av : List Value} {postc : gRes → AH → Prop} (mi : gMi y w0 maxL n) (F : gFix K p s m args meth c cc nL own ret) (ct : gCt K y w0 f lo mc ms h0 av postc) (hfr : f + 1 ≤ R.frames) (hlo : 8 + (maxL + 11) + lo ≤ R.locals) :
    vx_Back K.1 R p e below s args y len 8 (gPreA K R mc ms h0 av) (gPostA K mc ms postc) (gPostX K mc ms postc) := by
  obtain ⟨h1 | h1, h2, h3, -⟩ := mi
  · obtain ⟨bytes, r, hw⟩ := h1
    exact g_back hw ct hfr hlo F.2.2.2.2.1 h2 h3
  · obtain ⟨bytes, r, hh, hw⟩ := h1
    exact g_backW hw ct hfr hlo F.2.2.2.2.1 h2 h3
theorem gFix.pre {H : Heap} {locs : List Loc} {T : State} {vm₁ : Vm} {av : List Value} (F : gFix K p s m args meth c cc nL own ret) (hH : gH K h H) (hS : va_S (gA K) s.heap H locs) (hT : T.heap = H) (hW : s.WarmedH vm₁) : gPre K h av av.toArray (T.setVm vm₁) := by
  refine ⟨rfl, ?_, ?_⟩
  · refine gSt.to (s := s) (U := T.setVm vm₁) hW ?_ ?_ F.2.2.2.2.2.2.2
    · show s.heap.size ≤ T.heap.size
      rw [hT]; exact hS.1
    · show ∀ a : Nat, a < s.heap.size → ¬ gA K a → T.heap[a]? = s.heap[a]?
      rw [hT]; exact hS.2.1
  · show gH K h T.heap
    rw [hT]; exact hH
theorem g_callV {y : MethodName} {w0 : Cond} {maxL n index f lo mc ms ci N a : Nat} {C : String} {T0 : u_T} {fs As st0 : List Value} {postc : gRes → AH → Prop} (F : gFix K p s m args meth c cc nL own ret) (hd : decode cc pc = .ok (.invokevirtual index, 3)) (mi : gMi y w0 maxL n) (hlk : Cond.methodLink own index y ∈ lw_all) (hin : Cond.instanceMethod y ∈ lw_all) (hse : Cond.selects C y y ∈ lw_all) (hC : gCl[ci]? = some (C, T0, N)) (ha : h a = some (.inr (ci, fs)))
    (ct : gCt K y w0 f lo mc ms h (.ref a :: As) postc) (hst : st0 = As.reverse ++ .ref a :: st) (hn : As.length = n) (hW : (st.map fun v => v.category).sum ≤ 8) (hfr : f + 1 ≤ R.frames) (hlo : 8 + (maxL + 11) + lo ≤ R.locals)
    (kk : ∀ (v : Option Value) (h1 : AH), postc (.inl v) h1 → G K p e s m args below meth c R nL post h1 b bs (pc + 3) lv (v.toList ++ st)) (kx : ∀ (q : Nat) (h1 : AH), postc (.inr q) h1 → gOld K q = none → GX K p e s m args below meth c R nL post h1 b bs pc lv q) : G K p e s m args below meth c R nL post h (b + mc) (bs + ms) pc lv st0 := by
  intro H locs ls kc ks hH hS hl hb hbs T hT X
  have hK : vx_Back K.1 R p e below s args y 3 8 (gPreA K R mc ms h (.ref a :: As)) (gPostA K mc ms postc) (gPostX K mc ms postc) := mi.back F ct hfr hlo
  obtain ⟨cell, g1, g2, g3⟩ := grecv F hH hS hC ha
  refine g_fin (a := (Value.ref a :: As).toArray) hT hS hl hb hbs kk kx ?_
  have hpre : ∀ vm₁, s.WarmedH vm₁ → gPreA K R mc ms h (.ref a :: As) ⟨T.setVm vm₁, locs, kc, ks⟩ (Value.ref a :: As).toArray := fun vm₁ hW1 => ⟨by show kc + mc ≤ R.cells; omega, by show ks + ms ≤ R.slots; omega, F.pre hH hS hT hW1⟩
  have hlen := mi.len hn
  obtain ⟨h1 | h1, h2, -, h4, -⟩ := mi
  · obtain ⟨bytes, r, hw⟩ := h1
    subst hw
    exact vx_callV X F.1 F.2.2.2.1 (F.w hlk) (F.w hin) (F.w hse) (F.w h2) h4 hK (by rw [hT]; exact g1) g2 g3 (g := F0 m pc ls st0) rfl (by rw [F.2.2.1]; exact hl.1) (argsL := As) (rest := st) hlen hst (by show 2 * (F0 m pc ls st0).monitorRoom + _ ≤ 8; have h0 : (F0 m pc ls st0).monitorRoom = 0 := rfl; omega) (by rw [F.2.1]; exact hd) hpre
  · obtain ⟨bytes, r, hh, hw⟩ := h1
    subst hw
    exact vx_callVX X F.1 F.2.2.2.1 (F.w hlk) (F.w hin) (F.w hse) (F.w h2) h4 hK (by rw [hT]; exact g1) g2 g3 (g := F0 m pc ls st0) rfl (by rw [F.2.2.1]; exact hl.1) (argsL := As) (rest := st) hlen hst (by show 2 * (F0 m pc ls st0).monitorRoom + _ ≤ 8; have h0 : (F0 m pc ls st0).monitorRoom = 0 := rfl; omega) (by rw [F.2.1]; exact hd) hpre
theorem g_callVN {y : MethodName} {bytes : ByteArray} {r0 : Option FieldType} {maxL n index f lo mc ms ci N a : Nat} {C host : String} {T0 : u_T} {fs As st0 : List Value} {postc : gRes → AH → Prop} (F : gFix K p s m args meth c cc nL own ret) (hd : decode cc pc = .ok (.invokevirtual index, 3)) (mi : gMi y (Cond.code y bytes maxL r0) maxL n) (hlk : Cond.methodLinkNest own index y host ∈ lw_tbl) (hin : Cond.instanceMethod y ∈ lw_all) (hse : Cond.selects C y y ∈ lw_all) (hC : gCl[ci]? = some (C, T0, N)) (ha : h a = some (.inr (ci, fs)))
    (ct : gCt K y (Cond.code y bytes maxL r0) f lo mc ms h (.ref a :: As) postc) (hst : st0 = As.reverse ++ .ref a :: st) (hn : As.length = n) (hW : (st.map fun v => v.category).sum ≤ 8) (hfr : f + 1 ≤ R.frames) (hlo : 8 + (maxL + 11) + lo ≤ R.locals)
    (kk : ∀ (v : Option Value) (h1 : AH), postc (.inl v) h1 → G K p e s m args below meth c R nL post h1 b bs (pc + 3) lv (v.toList ++ st)) (kx : ∀ (q : Nat) (h1 : AH), postc (.inr q) h1 → gOld K q = none → GX K p e s m args below meth c R nL post h1 b bs pc lv q) : G K p e s m args below meth c R nL post h (b + mc) (bs + ms) pc lv st0 := by
  intro H locs ls kc ks hH hS hl hb hbs T hT X
  have hK : vx_Back K.1 R p e below s args y 3 8 (gPreA K R mc ms h (.ref a :: As)) (gPostA K mc ms postc) (gPostX K mc ms postc) := mi.back F ct hfr hlo
  obtain ⟨cell, g1, g2, g3⟩ := grecv F hH hS hC ha
  refine g_fin (a := (Value.ref a :: As).toArray) hT hS hl hb hbs kk kx ?_
  have hpre : ∀ vm₁, s.WarmedH vm₁ → gPreA K R mc ms h (.ref a :: As) ⟨T.setVm vm₁, locs, kc, ks⟩ (Value.ref a :: As).toArray := fun vm₁ hW1 => ⟨by show kc + mc ≤ R.cells; omega, by show ks + ms ≤ R.slots; omega, F.pre hH hS hT hW1⟩
  have hlen := mi.len hn
  obtain ⟨-, h2, -, h4, -⟩ := mi
  exact vx_callVN X F.1 F.2.2.2.1 ((F.nw hlk rfl).use rfl) (F.w hin) (F.w hse) (F.w h2) h4 hK (by rw [hT]; exact g1) g2 g3 (g := F0 m pc ls st0) rfl (by rw [F.2.2.1]; exact hl.1) (argsL := As) (rest := st) hlen hst (by show 2 * (F0 m pc ls st0).monitorRoom + _ ≤ 8; have h0 : (F0 m pc ls st0).monitorRoom = 0 := rfl; omega) (by rw [F.2.1]; exact hd) hpre
/-- an inherited or overridden method: x is named, y runs -/
theorem g_callU {x y : MethodName} {bytes : ByteArray} {r0 : Option FieldType} {maxL n index f lo mc ms ci N a : Nat} {C owner : String} {T0 : u_T} {fs As st0 : List Value} {postc : gRes → AH → Prop} (F : gFix K p s m args meth c cc nL own ret) (hd : decode cc pc = .ok (.invokevirtual index, 3)) (mi : gMi y (Cond.code y bytes maxL r0) maxL n) (hdx : y.desc = x.desc) (hlk : (Cond.methodLink own index x).before args s = true) (hsm : (Cond.sameMethod x.cls owner x.name x.desc).before args s = true) (hdc : va_Decl s ⟨owner, x.name, x.desc⟩) (howner : owner ≠ "java/lang/invoke/MethodHandle" ∧ owner ≠ "java/lang/invoke/VarHandle") (hin : Cond.instanceMethod y ∈ lw_all) (hse : Cond.selects C x y ∈ lw_all) (hC : gCl[ci]? = some (C, T0, N)) (ha : h a = some (.inr (ci, fs)))
    (ct : gCt K y (Cond.code y bytes maxL r0) f lo mc ms h (.ref a :: As) postc) (hst : st0 = As.reverse ++ .ref a :: st) (hn : As.length = n) (hW : (st.map fun v => v.category).sum ≤ 8) (hfr : f + 1 ≤ R.frames) (hlo : 8 + (maxL + 11) + lo ≤ R.locals)
    (kk : ∀ (v : Option Value) (h1 : AH), postc (.inl v) h1 → G K p e s m args below meth c R nL post h1 b bs (pc + 3) lv (v.toList ++ st)) (kx : ∀ (q : Nat) (h1 : AH), postc (.inr q) h1 → gOld K q = none → GX K p e s m args below meth c R nL post h1 b bs pc lv q) : G K p e s m args below meth c R nL post h (b + mc) (bs + ms) pc lv st0 := by
  intro H locs ls kc ks hH hS hl hb hbs T hT X
  have hK : vx_Back K.1 R p e below s args y 3 8 (gPreA K R mc ms h (.ref a :: As)) (gPostA K mc ms postc) (gPostX K mc ms postc) := mi.back F ct hfr hlo
  obtain ⟨cell, g1, g2, g3⟩ := grecv F hH hS hC ha
  refine g_fin (a := (Value.ref a :: As).toArray) hT hS hl hb hbs kk kx ?_
  have hpre : ∀ vm₁, s.WarmedH vm₁ → gPreA K R mc ms h (.ref a :: As) ⟨T.setVm vm₁, locs, kc, ks⟩ (Value.ref a :: As).toArray := fun vm₁ hW1 => ⟨by show kc + mc ≤ R.cells; omega, by show ks + ms ≤ R.slots; omega, F.pre hH hS hT hW1⟩
  have hlen := mi.len hn
  obtain ⟨-, h2, -, h4, -⟩ := mi
  exact vx_callVU X F.1 F.2.2.2.1 hlk hsm hdc howner (F.w hse) (F.w hin) (F.w h2) hK (by rw [hT]; exact g1) g2 g3 (g := F0 m pc ls st0) rfl (by rw [F.2.2.1]; exact hl.1) (argsL := As) (rest := st) (by rw [← hdx]; exact hlen) hst (by show 2 * (F0 m pc ls st0).monitorRoom + _ ≤ 8; have h0 : (F0 m pc ls st0).monitorRoom = 0 := rfl; omega) (by rw [F.2.1]; exact hd) hpre
theorem g_callS {y : MethodName} {w0 : Cond} {maxL n index f lo mc ms : Nat} {As st0 : List Value} {postc : gRes → AH → Prop} (F : gFix K p s m args meth c cc nL own ret) (hd : decode cc pc = .ok (.invokestatic index, 3)) (mi : gMi y w0 maxL n) (hlk : Cond.methodLink own index y ∈ lw_all) (hstat : Cond.static y ∈ lw_all)
    (ct : gCt K y w0 f lo mc ms h As postc) (hst : st0 = As.reverse ++ st) (hn : As.length = n) (hW : (st.map fun v => v.category).sum ≤ 8) (hfr : f + 1 ≤ R.frames) (hlo : 8 + (maxL + 11) + lo ≤ R.locals)
    (kk : ∀ (v : Option Value) (h1 : AH), postc (.inl v) h1 → G K p e s m args below meth c R nL post h1 b bs (pc + 3) lv (v.toList ++ st)) (kx : ∀ (q : Nat) (h1 : AH), postc (.inr q) h1 → gOld K q = none → GX K p e s m args below meth c R nL post h1 b bs pc lv q) : G K p e s m args below meth c R nL post h (b + mc) (bs + ms) pc lv st0 := by
  intro H locs ls kc ks hH hS hl hb hbs T hT X
  have hK : vx_Back K.1 R p e below s args y 3 8 (gPreA K R mc ms h As) (gPostA K mc ms postc) (gPostX K mc ms postc) := mi.back F ct hfr hlo
  refine g_fin (a := As.toArray) hT hS hl hb hbs kk kx ?_
  have hpre : ∀ vm₁, s.WarmedH vm₁ → gPreA K R mc ms h As ⟨T.setVm vm₁, locs, kc, ks⟩ As.toArray := fun vm₁ hW1 => ⟨by show kc + mc ≤ R.cells; omega, by show ks + ms ≤ R.slots; omega, F.pre hH hS hT hW1⟩
  have hlen := mi.len hn
  obtain ⟨h1 | h1, h2, h3, h4, -⟩ := mi
  · obtain ⟨bytes, r, hw⟩ := h1
    subst hw
    exact vx_callS X F.1 F.2.2.2.1 (F.w hlk) (F.w hstat) (F.w h3) (F.w h2) h4 hK (g := F0 m pc ls st0) rfl (by rw [F.2.2.1]; exact hl.1) (argsL := As) (rest := st) hlen hst (by show 2 * (F0 m pc ls st0).monitorRoom + _ ≤ 8; have h0 : (F0 m pc ls st0).monitorRoom = 0 := rfl; omega) (by rw [F.2.1]; exact hd) hpre
  · obtain ⟨bytes, r, hh, hw⟩ := h1
    subst hw
    exact vx_callSX X F.1 F.2.2.2.1 (F.w hlk) (F.w hstat) (F.w h3) (F.w h2) h4 hK (g := F0 m pc ls st0) rfl (by rw [F.2.2.1]; exact hl.1) (argsL := As) (rest := st) hlen hst (by show 2 * (F0 m pc ls st0).monitorRoom + _ ≤ 8; have h0 : (F0 m pc ls st0).monitorRoom = 0 := rfl; omega) (by rw [F.2.1]; exact hd) hpre
theorem g_callSN {y : MethodName} {bytes : ByteArray} {r0 : Option FieldType} {host : String} {maxL n index f lo mc ms : Nat} {As st0 : List Value} {postc : gRes → AH → Prop} (F : gFix K p s m args meth c cc nL own ret) (hd : decode cc pc = .ok (.invokestatic index, 3)) (mi : gMi y (Cond.code y bytes maxL r0) maxL n) (hlk : Cond.methodLinkNest own index y host ∈ lw_tbl) (hstat : Cond.static y ∈ lw_all)
    (ct : gCt K y (Cond.code y bytes maxL r0) f lo mc ms h As postc) (hst : st0 = As.reverse ++ st) (hn : As.length = n) (hW : (st.map fun v => v.category).sum ≤ 8) (hfr : f + 1 ≤ R.frames) (hlo : 8 + (maxL + 11) + lo ≤ R.locals)
    (kk : ∀ (v : Option Value) (h1 : AH), postc (.inl v) h1 → G K p e s m args below meth c R nL post h1 b bs (pc + 3) lv (v.toList ++ st)) (kx : ∀ (q : Nat) (h1 : AH), postc (.inr q) h1 → gOld K q = none → GX K p e s m args below meth c R nL post h1 b bs pc lv q) : G K p e s m args below meth c R nL post h (b + mc) (bs + ms) pc lv st0 := by
  intro H locs ls kc ks hH hS hl hb hbs T hT X
  have hK : vx_Back K.1 R p e below s args y 3 8 (gPreA K R mc ms h As) (gPostA K mc ms postc) (gPostX K mc ms postc) := mi.back F ct hfr hlo
  refine g_fin (a := As.toArray) hT hS hl hb hbs kk kx ?_
  have hpre : ∀ vm₁, s.WarmedH vm₁ → gPreA K R mc ms h As ⟨T.setVm vm₁, locs, kc, ks⟩ As.toArray := fun vm₁ hW1 => ⟨by show kc + mc ≤ R.cells; omega, by show ks + ms ≤ R.slots; omega, F.pre hH hS hT hW1⟩
  have hlen := mi.len hn
  obtain ⟨-, h2, h3, h4, -⟩ := mi
  exact vx_callSN X F.1 F.2.2.2.1 ((F.nw hlk rfl).use rfl) (F.w hstat) (F.w h3) (F.w h2) h4 hK (g := F0 m pc ls st0) rfl (by rw [F.2.2.1]; exact hl.1) (argsL := As) (rest := st) hlen hst (by show 2 * (F0 m pc ls st0).monitorRoom + _ ≤ 8; have h0 : (F0 m pc ls st0).monitorRoom = 0 := rfl; omega) (by rw [F.2.1]; exact hd) hpre
theorem g_callI {y : MethodName} {bytes : ByteArray} {maxL n index f lo mc ms a : Nat} {As st0 : List Value} {postc : gRes → AH → Prop} (F : gFix K p s m args meth c cc nL own ret) (hd : decode cc pc = .ok (.invokespecial index, 3)) (mi : gMi y (Cond.code y bytes maxL none) maxL n) (hy : y.name = "<init>") (hlk : Cond.methodLink own index y ∈ lw_all) (hin : Cond.instanceMethod y ∈ lw_all)
    (ct : gCt K y (Cond.code y bytes maxL none) f lo mc ms h (.ref a :: As) postc) (hst : st0 = As.reverse ++ .ref a :: st) (hn : As.length = n) (hW : (st.map fun v => v.category).sum ≤ 8) (hfr : f + 1 ≤ R.frames) (hlo : 8 + (maxL + 11) + lo ≤ R.locals)
    (kk : ∀ (v : Option Value) (h1 : AH), postc (.inl v) h1 → G K p e s m args below meth c R nL post h1 b bs (pc + 3) lv (v.toList ++ st)) (kx : ∀ (q : Nat) (h1 : AH), postc (.inr q) h1 → gOld K q = none → GX K p e s m args below meth c R nL post h1 b bs pc lv q) : G K p e s m args below meth c R nL post h (b + mc) (bs + ms) pc lv st0 := by
  intro H locs ls kc ks hH hS hl hb hbs T hT X
  have hK : vx_Back K.1 R p e below s args y 3 8 (gPreA K R mc ms h (.ref a :: As)) (gPostA K mc ms postc) (gPostX K mc ms postc) := mi.back F ct hfr hlo
  refine g_fin (a := (Value.ref a :: As).toArray) hT hS hl hb hbs kk kx ?_
  have hpre : ∀ vm₁, s.WarmedH vm₁ → gPreA K R mc ms h (.ref a :: As) ⟨T.setVm vm₁, locs, kc, ks⟩ (Value.ref a :: As).toArray := fun vm₁ hW1 => ⟨by show kc + mc ≤ R.cells; omega, by show ks + ms ≤ R.slots; omega, F.pre hH hS hT hW1⟩
  have hlen := mi.len hn
  obtain ⟨-, h2, -, h4, -⟩ := mi
  exact vx_callI X F.1 F.2.2.2.1 hy (F.w hlk) (F.w hin) (F.w h2) h4 hK (g := F0 m pc ls st0) rfl (by rw [F.2.2.1]; exact hl.1) (argsL := As) (rest := st) hlen hst (by show 2 * (F0 m pc ls st0).monitorRoom + _ ≤ 8; have h0 : (F0 m pc ls st0).monitorRoom = 0 := rfl; omega) (by rw [F.2.1]; exact hd) hpre
theorem g_callIN {y : MethodName} {bytes : ByteArray} {host : String} {maxL n index f lo mc ms a : Nat} {As st0 : List Value} {postc : gRes → AH → Prop} (F : gFix K p s m args meth c cc nL own ret) (hd : decode cc pc = .ok (.invokespecial index, 3)) (mi : gMi y (Cond.code y bytes maxL none) maxL n) (hy : y.name = "<init>") (hlk : Cond.methodLinkNest own index y host ∈ lw_tbl) (hin : Cond.instanceMethod y ∈ lw_all)
    (ct : gCt K y (Cond.code y bytes maxL none) f lo mc ms h (.ref a :: As) postc) (hst : st0 = As.reverse ++ .ref a :: st) (hn : As.length = n) (hW : (st.map fun v => v.category).sum ≤ 8) (hfr : f + 1 ≤ R.frames) (hlo : 8 + (maxL + 11) + lo ≤ R.locals)
    (kk : ∀ (v : Option Value) (h1 : AH), postc (.inl v) h1 → G K p e s m args below meth c R nL post h1 b bs (pc + 3) lv (v.toList ++ st)) (kx : ∀ (q : Nat) (h1 : AH), postc (.inr q) h1 → gOld K q = none → GX K p e s m args below meth c R nL post h1 b bs pc lv q) : G K p e s m args below meth c R nL post h (b + mc) (bs + ms) pc lv st0 := by
  intro H locs ls kc ks hH hS hl hb hbs T hT X
  have hK : vx_Back K.1 R p e below s args y 3 8 (gPreA K R mc ms h (.ref a :: As)) (gPostA K mc ms postc) (gPostX K mc ms postc) := mi.back F ct hfr hlo
  refine g_fin (a := (Value.ref a :: As).toArray) hT hS hl hb hbs kk kx ?_
  have hpre : ∀ vm₁, s.WarmedH vm₁ → gPreA K R mc ms h (.ref a :: As) ⟨T.setVm vm₁, locs, kc, ks⟩ (Value.ref a :: As).toArray := fun vm₁ hW1 => ⟨by show kc + mc ≤ R.cells; omega, by show ks + ms ≤ R.slots; omega, F.pre hH hS hT hW1⟩
  have hlen := mi.len hn
  obtain ⟨-, h2, -, h4, -⟩ := mi
  exact vx_callIN X F.1 F.2.2.2.1 hy ((F.nw hlk rfl).use rfl) (F.w hin) (F.w h2) h4 hK (g := F0 m pc ls st0) rfl (by rw [F.2.2.1]; exact hl.1) (argsL := As) (rest := st) hlen hst (by show 2 * (F0 m pc ls st0).monitorRoom + _ ≤ 8; have h0 : (F0 m pc ls st0).monitorRoom = 0 := rfl; omega) (by rw [F.2.1]; exact hd) hpre
/-- super.y(..) -/
theorem g_callSU {y : MethodName} {bytes : ByteArray} {r0 : Option FieldType} {maxL n index f lo mc ms ci N a : Nat} {C : String} {T0 : u_T} {fs As st0 : List Value} {postc : gRes → AH → Prop} (F : gFix K p s m args meth c cc nL own ret) (hd : decode cc pc = .ok (.invokespecial index, 3)) (mi : gMi y (Cond.code y bytes maxL r0) maxL n) (hno : y.name ≠ "<init>") (hlk : Cond.methodLink own index y ∈ lw_all) (hsm : Cond.sameMethod y.cls y.cls y.name y.desc ∈ lw_all) (hsu : Cond.superclass own y.cls ∈ lw_all) (hin : Cond.instanceMethod y ∈ lw_all) (hC : gCl[ci]? = some (C, T0, N)) (ha : h a = some (.inr (ci, fs)))
    (ct : gCt K y (Cond.code y bytes maxL r0) f lo mc ms h (.ref a :: As) postc) (hst : st0 = As.reverse ++ .ref a :: st) (hn : As.length = n) (hW : (st.map fun v => v.category).sum ≤ 8) (hfr : f + 1 ≤ R.frames) (hlo : 8 + (maxL + 11) + lo ≤ R.locals)
    (kk : ∀ (v : Option Value) (h1 : AH), postc (.inl v) h1 → G K p e s m args below meth c R nL post h1 b bs (pc + 3) lv (v.toList ++ st)) (kx : ∀ (q : Nat) (h1 : AH), postc (.inr q) h1 → gOld K q = none → GX K p e s m args below meth c R nL post h1 b bs pc lv q) : G K p e s m args below meth c R nL post h (b + mc) (bs + ms) pc lv st0 := by
  intro H locs ls kc ks hH hS hl hb hbs T hT X
  have hK : vx_Back K.1 R p e below s args y 3 8 (gPreA K R mc ms h (.ref a :: As)) (gPostA K mc ms postc) (gPostX K mc ms postc) := mi.back F ct hfr hlo
  obtain ⟨cell, g1, g2, g3⟩ := grecv F hH hS hC ha
  obtain ⟨hfc, kC, hkC, -⟩ := (F.hK.1 ci _ hC).2
  have hce := Option.some.inj (hfc.symm.trans g3)
  rw [hce] at hkC
  refine g_fin (a := (Value.ref a :: As).toArray) hT hS hl hb hbs kk kx ?_
  have hpre : ∀ vm₁, s.WarmedH vm₁ → gPreA K R mc ms h (.ref a :: As) ⟨T.setVm vm₁, locs, kc, ks⟩ (Value.ref a :: As).toArray := fun vm₁ hW1 => ⟨by show kc + mc ≤ R.cells; omega, by show ks + ms ≤ R.slots; omega, F.pre hH hS hT hW1⟩
  have hlen := mi.len hn
  obtain ⟨-, h2, -, h4, -⟩ := mi
  exact vx_callSU X F.1 F.2.2.2.1 (F.w hlk) (F.w hsm) (F.w hsu) (F.w hin) (F.w h2) hno hK (by rw [hT]; exact g1) g2 hkC (g := F0 m pc ls st0) rfl (by rw [F.2.2.1]; exact hl.1) (argsL := As) (rest := st) hlen hst (by show 2 * (F0 m pc ls st0).monitorRoom + _ ≤ 8; have h0 : (F0 m pc ls st0).monitorRoom = 0 := rfl; omega) (by rw [F.2.1]; exact hd) hpre
theorem g_callF {x y : MethodName} {bytes : ByteArray} {r0 : Option FieldType} {maxL n index count f lo mc ms ci N a : Nat} {C : String} {T0 : u_T} {fs As st0 : List Value} {postc : gRes → AH → Prop} (F : gFix K p s m args meth c cc nL own ret) (hd : decode cc pc = .ok (.invokeinterface index count, 5)) (mi : gMi y (Cond.code y bytes maxL r0) maxL n) (hdx : y.desc = x.desc) (hlk : Cond.methodLink own index x ∈ lw_all) (i : Nat) (hF : gFws[i]? = some (C, x, y)) (hin : Cond.instanceMethod y ∈ lw_all) (hse : Cond.selects C x y ∈ lw_all) (hC : gCl[ci]? = some (C, T0, N)) (ha : h a = some (.inr (ci, fs)))
    (ct : gCt K y (Cond.code y bytes maxL r0) f lo mc ms h (.ref a :: As) postc) (hst : st0 = As.reverse ++ .ref a :: st) (hn : As.length = n) (hW : (st.map fun v => v.category).sum ≤ 8) (hfr : f + 1 ≤ R.frames) (hlo : 8 + (maxL + 11) + lo ≤ R.locals)
    (kk : ∀ (v : Option Value) (h1 : AH), postc (.inl v) h1 → G K p e s m args below meth c R nL post h1 b bs (pc + 5) lv (v.toList ++ st)) (kx : ∀ (q : Nat) (h1 : AH), postc (.inr q) h1 → gOld K q = none → GX K p e s m args below meth c R nL post h1 b bs pc lv q) : G K p e s m args below meth c R nL post h (b + mc) (bs + ms) pc lv st0 := by
  intro H locs ls kc ks hH hS hl hb hbs T hT X
  have hK : vx_Back K.1 R p e below s args y 5 8 (gPreA K R mc ms h (.ref a :: As)) (gPostA K mc ms postc) (gPostX K mc ms postc) := mi.back F ct hfr hlo
  obtain ⟨cell, g1, g2, g3⟩ := grecv F hH hS hC ha
  obtain ⟨hfc, kC, hkC, -⟩ := (F.hK.1 ci _ hC).2
  have hce := Option.some.inj (hfc.symm.trans g3)
  rw [hce] at hkC
  have hFm := List.mem_of_getElem? hF
  obtain ⟨w1, w2, w3, w4, w5⟩ := F.hN.2.1 _ hFm
  have hx := gFws_ok _ hFm
  refine g_fin (a := (Value.ref a :: As).toArray) hT hS hl hb hbs kk kx ?_
  have hpre : ∀ vm₁, s.WarmedH vm₁ → gPreA K R mc ms h (.ref a :: As) ⟨T.setVm vm₁, locs, kc, ks⟩ (Value.ref a :: As).toArray := fun vm₁ hW1 => ⟨by show kc + mc ≤ R.cells; omega, by show ks + ms ≤ R.slots; omega, F.pre hH hS hT hW1⟩
  have hlen := mi.len hn
  obtain ⟨-, h2, -, h4, -⟩ := mi
  exact vx_callIF X F.1 F.2.2.2.1 (F.w hlk) (va_any rfl w1) (va_any rfl w2) (F.w hse) (F.w hin) (va_any rfl w3) (va_any rfl w4) (va_any rfl w5) (F.w h2) hx hK (by rw [hT]; exact g1) g2 g3 hkC (g := F0 m pc ls st0) rfl (by rw [F.2.2.1]; exact hl.1) (argsL := As) (rest := st) (by rw [← hdx]; exact hlen) hst (by show 2 * (F0 m pc ls st0).monitorRoom + _ ≤ 8; have h0 : (F0 m pc ls st0).monitorRoom = 0 := rfl; omega) (by rw [F.2.1]; exact hd) hpre
/-! ends -/
theorem g_retV {ty : FieldType} {v : Value} (F : gFix K p s m args meth c cc nL own ret) (hv : post (.inl (some v)) h)
    (hq : ∀ (H : Heap) (locs : List Loc) (kc ks : Nat) (ls : Array Slot) (Qc : Array Value → State → Outcome → State → Prop) (free : Addr → Prop), (∀ t : State, t.heap = H → s.WarmedH t.vm → Qc args s (.returned (some v)) t) → (∀ q ∈ locs, free q.base) → W p K.1 e R s m args below meth c H locs kc ks (MQ below Qc args s kc ks free) (F0 m pc ls [v])) : G K p e s m args below meth c R nL post h b bs pc lv [v] := by
  intro H locs ls kc ks hH hS hl hb hbs
  refine W.widen (k := R.cells) (n := R.slots) (by omega) (by omega) ?_
  intro T hT X
  obtain ⟨t, a1, o, b1, b2, b3, b4⟩ := hq H locs R.cells R.slots ls (fun _ st o t => o = .returned (some v) ∧ gH K h t.heap ∧ va_F (gA K) st t) (gA K) (fun t ht hW => ⟨rfl, by rw [ht]; exact hH, hS.F ht⟩) hS.2.2 T hT X
  obtain ⟨ho, hHt, hFt⟩ := b3
  exact ⟨t, a1, o, b1, b2, Or.inl ⟨some v, h, ho, hv, hHt, hFt, b4⟩⟩
theorem g_iret {x : Int32} (F : gFix K p s m args meth c cc nL own (some .int)) (hd : decode cc pc = .ok (.ireturn, 1)) (hv : post (.inl (some (.int x))) h) : G K p e s m args below meth c R nL post h b bs pc lv [.int x] :=
  g_retV (ty := .int) F hv fun H locs kc ks ls Qc free h1 h2 => W.iret F.1 F.2.1 F.2.2.2.2.2.1 h1 h2 hd F.2.2.2.2.2.2.1
theorem g_zret {ty : FieldType} {x : Int32} (F : gFix K p s m args meth c cc nL own (some ty)) (hd : decode cc pc = .ok (.ireturn, 1)) (hn : narrow ty (.int x) = .int x) (hv : post (.inl (some (.int x))) h) : G K p e s m args below meth c R nL post h b bs pc lv [.int x] :=
  g_retV (ty := .int) F hv fun H locs kc ks ls Qc free h1 h2 => W.zret F.1 F.2.1 F.2.2.2.2.2.1 hn h1 h2 hd F.2.2.2.2.2.2.1
theorem g_vret (F : gFix K p s m args meth c cc nL own none) (hd : decode cc pc = .ok (.return_, 1)) (hv : post (.inl none) h) : G K p e s m args below meth c R nL post h b bs pc lv [] := by
  intro H locs ls kc ks hH hS hl hb hbs
  refine W.widen (k := R.cells) (n := R.slots) (by omega) (by omega) ?_
  intro T hT X
  obtain ⟨t, a1, o, b1, b2, b3, b4⟩ := (W.vret (l := K.1) (e := e) (R := R) (below := below) (locs := locs) (cells := R.cells) (slots := R.slots) (Qc := fun _ st o t => o = .returned none ∧ gH K h t.heap ∧ va_F (gA K) st t) (free := gA K) (ls := ls) F.1 F.2.1 F.2.2.2.2.2.1 (fun t ht hW => ⟨rfl, by rw [ht]; exact hH, hS.F ht⟩) hS.2.2 hd F.2.2.2.2.2.2.1) T hT X
  obtain ⟨ho, hHt, hFt⟩ := b3
  exact ⟨t, a1, o, b1, b2, Or.inl ⟨none, h, ho, hv, hHt, hFt, b4⟩⟩
theorem g_aret {rt : FieldType} {v : Value} (F : gFix K p s m args meth c cc nL own (some rt)) (hd : decode cc pc = .ok (.areturn, 1)) (hrt : (∃ n, rt = .object n) ∨ ∃ t, rt = .array t) (hn : v = .null ∨ ∃ a, v = .ref a) (hv : post (.inl (some v)) h) : G K p e s m args below meth c R nL post h b bs pc lv [v] :=
  g_retV (ty := .int) F hv fun H locs kc ks ls Qc free h1 h2 => W.aret F.1 F.2.1 F.2.2.2.2.2.1 hrt hn h1 h2 hd F.2.2.2.2.2.2.1
theorem g_fret {v : UInt32} (F : gFix K p s m args meth c cc nL own (some .float)) (hd : decode cc pc = .ok (.freturn, 1)) (hv : post (.inl (some (.float v))) h) : G K p e s m args below meth c R nL post h b bs pc lv [.float v] :=
  g_retV (ty := .int) F hv fun H locs kc ks ls Qc free h1 h2 => W.fret F.1 F.2.1 F.2.2.2.2.2.1 h1 h2 hd F.2.2.2.2.2.2.1
theorem g_dret {v : UInt64} (F : gFix K p s m args meth c cc nL own (some .double)) (hd : decode cc pc = .ok (.dreturn, 1)) (hv : post (.inl (some (.double v))) h) : G K p e s m args below meth c R nL post h b bs pc lv [.double v] :=
  g_retV (ty := .int) F hv fun H locs kc ks ls Qc free h1 h2 => W.dret F.1 F.2.1 F.2.2.2.2.2.1 h1 h2 hd F.2.2.2.2.2.2.1
/-! throws -/
theorem g_thrown {H : Heap} (F : gFix K p s m args meth c cc nL own ret) (hH : gH K h H) {q ci N : Nat} {fs : List Value} {C : String} {T : u_T} (hc : gCl[ci]? = some (C, T, N)) (hq : h q = some (.inr (ci, fs))) (ho : gOld K q = none) : ∃ ce : Cell, H[q]? = some ce ∧ ce.vm = .none ∧ s.vm.findClass C = some ce.cls := by
  obtain ⟨ws, q0, hP, hD, hw, -⟩ := hH.look hq ho
  obtain ⟨r, h1, cell, q1, q2, q3, q4⟩ := hP q0 _ hw
  exact ⟨cell, q1, q3, by rw [q2]; exact ((F.hK.1 ci _ hc).2).1⟩
theorem g_athrow {q : Nat} (F : gFix K p s m args meth c cc nL own ret) (hd : decode cc pc = .ok (.athrow, 1)) (kk : GX K p e s m args below meth c R nL post h b bs pc lv q) : G K p e s m args below meth c R nL post h b bs pc lv (.ref q :: st) :=
  fun H locs ls kc ks hH hS hl hb hbs => vx_athrow F.1 F.2.1 hd (kk H locs ls kc ks st hH hS hl hb hbs)
theorem gx_out {q ci N : Nat} {fs : List Value} {C : String} {T0 : u_T} (F : gFix K p s m args meth c cc nL own ret) (hout : ∀ x ∈ c.exceptionTable.toList, covers x pc = false) (hc : gCl[ci]? = some (C, T0, N)) (hq : h q = some (.inr (ci, fs))) (ho : gOld K q = none) (hp : post (.inr q) h) : GX K p e s m args below meth c R nL post h b bs pc lv q := by
  intro H locs ls kc ks rest hH hS hl hb hbs T hT X
  obtain ⟨st1, hrun, hend, hW, hsm⟩ := X.leaveThrown q (g := F0 m pc ls rest) rfl rfl rfl hout F.2.2.2.2.2.2.1
  refine ⟨_, st1, .threw q, hrun, hend, Or.inr ⟨q, h, rfl, hp, ho, ?_, ?_, hW, locs, hsm.mono (by omega) (by omega), hS.2.2⟩⟩
  · show gH K h T.heap
    rw [hT]; exact hH
  · exact hS.F hT
theorem gx_catch {q ci N : Nat} {fs : List Value} {C nm : String} {T0 : u_T} (F : gFix K p s m args meth c cc nL own ret) (pre : List ExceptionTableEntry) (x : ExceptionTableEntry) (suf : List ExceptionTableEntry) (hsplit : c.exceptionTable.toList = pre ++ x :: suf)
    (hpass : ∀ z ∈ pre, covers z pc = false ∨ (z.catchType ≠ 0 ∧ ∃ n9 : String, Cond.classLink own z.catchType n9 ∈ lw_all ∧ va_Nc C n9 s)) (hx : covers x pc = true) (h0 : x.catchType ≠ 0) (hlink : Cond.classLink own x.catchType nm ∈ lw_all) (hcast : gFit s C nm) (hc : gCl[ci]? = some (C, T0, N)) (hq : h q = some (.inr (ci, fs))) (ho : gOld K q = none)
    (kk : G K p e s m args below meth c R nL post h b bs x.handlerPc lv [.ref q]) : GX K p e s m args below meth c R nL post h b bs pc lv q := by
  intro H locs ls kc ks rest hH hS hl hb hbs T hT X
  obtain ⟨ce, hcell, hv, hcl⟩ := g_thrown F hH hc hq ho
  have hpl : e.platform.magicAccessors = ({} : Platform).magicAccessors := by rw [X.admits.platform]
  obtain ⟨c5, hc5, hcl5⟩ := Cond.classLink_spec F.2.2.2.1 (F.w hlink) e.platform hpl
  have hasg := hcast c5 ce.cls hc5 hcl
  obtain ⟨vm', X', st9⟩ := X.thenCaughtThrough q (g := F0 m pc ls rest) rfl (Steps.refl _) (by rw [hT]; exact hcell) (by rw [hv]; rfl) (by obtain ⟨k9, h9, -⟩ := Vm.findClass_spec hcl; exact ⟨k9, h9⟩) pre x suf hsplit
    (fun z hz => by
      rcases hpass z hz with h9 | ⟨hz0, n9, hl1, hn1⟩
      · exact Or.inl h9
      · obtain ⟨c6, hc6, hcl6⟩ := Cond.classLink_spec F.2.2.2.1 (F.w hl1) e.platform hpl
        obtain ⟨a8, b8, h1, h2, h3⟩ := hn1
        cases Option.some.inj (h1.symm.trans hcl)
        cases Option.some.inj (h2.symm.trans hc6)
        exact Or.inr ⟨hz0, _, hcl6, h3⟩) hx (Or.inr ⟨h0, c5, hcl5, hasg⟩)
  obtain ⟨t, a1, b1⟩ := kk H locs ls kc ks hH hS hl hb hbs (T.setVm vm') hT X'
  exact ⟨t, st9.trans a1, b1⟩
/-- 'new E()', E of the JDK -/
theorem g_make0 {cls : String} {names : List String} {ik ic ci : Nat} {T0 : u_T} (F : gFix K p s m args meth c cc nL own ret) (hcls : Bundle.fit cls = true) (hnames : ∀ n ∈ names, Bundle.fit n = true) (hk : Cond.classLink own ik cls ∈ lw_all) (hini : Cond.initialized cls ∈ lw_all) (hat : ∀ w ∈ vx_at0 own ic cls names, w ∈ lw_all ∨ (w ∈ lw_tbl ∧ gNk w = true))
    (d0 : decode cc pc = .ok (.new ik, 3)) (d3 : decode cc (pc + 3) = .ok (.dup, 1)) (d4 : decode cc (pc + 4) = .ok (.invokespecial ic, 3)) (hc : gCl[ci]? = some (cls, T0, 0)) (hRf : names.length + 3 < R.frames) (hRl : (st.map fun v => v.category).sum + (13 * (names.length + 1) + 42) ≤ R.locals)
    (kk : ∀ (q : Nat) (h1 : AH), h q = none → gOld K q = none → h1 = gu h q (.inr (ci, [])) → G K p e s m args below meth c R nL post h1 b bs (pc + 7) lv (.ref q :: st)) : G K p e s m args below meth c R nL post h (b + 1) (bs + 6) pc lv st := by
  intro H locs ls kc ks hH hS hl hb hbs
  obtain ⟨ws, hP, hD, hw⟩ := hH
  have hw9 : ∀ w ∈ vx_at0 own ic cls names, w.before args s = true := by
    intro w hw9
    rcases hat w hw9 with z | ⟨z1, z2⟩
    · exact F.w z
    · refine (F.nw z1 z2).use ?_
      cases w <;> first | (cases z2; done) | rfl
  have hgood : ∀ w ∈ Cond.classLink own ik cls :: Cond.initialized cls :: vx_at0 own ic cls names, vx_ot w = true := by
    intro w hw8
    rcases List.mem_cons.mp hw8 with z | z
    · rw [z]; rfl
    · rcases List.mem_cons.mp z with z | z
      · rw [z]; rfl
      · rcases hat w z with y | ⟨y1, y2⟩
        · have := (List.mem_filter.mp y).2
          unfold vx_ot
          rw [this, Bool.or_true]
        · cases w <;> first | (cases y2; done) | rfl
  refine vx_make0 F.1 F.2.1 F.hnt F.2.2.2.1 hcls hnames (F.w hk) (F.w hini) hw9 hgood F.hZ.2.1 F.hZ.2.2.1 hS (by rw [F.2.2.1]; exact hl.1) d0 d3 d4 F.hK hP hD F.hA hc hRf hRl (by omega) (by omega) (fun q H1 hP1 hD1 hS1 => ?_)
  obtain ⟨z1, z2, z3⟩ := gH.push (fun a e q => (F.2.2.2.2.2.2.2.2.1 a e q).1) hw hP1 hD1
  exact kk q _ z1 z2 rfl H1 locs ls _ _ z3 hS1 hl (by omega) (by omega)
/-! a method's start -/
theorem g_meth {K : gK} {y : MethodName} {cc : ByteArray} {nL : Nat} {ret : Option FieldType} {f lo mc ms : Nat} {h : AH} {av : List Value} {post : gRes → AH → Prop} (hy : plainFor y = true) (hsl : (lg_sl av).length ≤ nL)
    (body : ∀ (p : Program) (e : Env) (s : State) (m : MethodId) (args : Array Value) (below : List Frame) (meth : Method) (c : Code), gFix K p s m args meth c cc nL y.cls ret → meth.name = y.name → (∀ x ∈ c.exceptionTable.toList, False) → G K p e s m args below meth c (gRm f lo mc ms) nL post h mc ms 0 (lv_args 0 av) []) : gCt K y (Cond.code y cc nL ret) f lo mc ms h av post := by
  refine MetFree.of_bodySF (code := cc) (maxLocals := nL) (ret := ret) hy ?_ ?_
  · intro args s m h0 hn
    obtain ⟨meth, c, h1, h2, h3, h4, h5, h6, -, -⟩ := Cond.code_spec hn (atoms_spec (ws := Cond.code y cc nL ret :: lw_all) h0 _ List.mem_cons_self)
    exact ⟨meth, c, h1, h2, h3, h4, h5, h6⟩
  · intro p e s m args below meth c s₁ B hml hP _
    have hh0 : s₁.heap = s.heap := by rw [B.state]; rfl
    have ht : ∀ x ∈ c.exceptionTable.toList, False := by
      obtain ⟨meth9, c9, h1, h2, -, -, -, -, h7, -⟩ := Cond.code_spec B.named (atoms_spec (ws := Cond.code y cc nL ret :: lw_all) B.pre _ List.mem_cons_self)
      cases Option.some.inj (h1.symm.trans B.method)
      cases Option.some.inj (h2.symm.trans (Stand.of_body B).code)
      intro x hx
      rw [Array.isEmpty_iff.mp h7] at hx
      cases hx
    obtain ⟨rfl, hSt, hH⟩ := hP
    have hts := atoms_spec (ws := Cond.code y cc nL ret :: lw_all) B.pre
    have F : gFix K p s m av.toArray meth c cc nL y.cls ret := ⟨B.exec, B.bytes, hml, findClass_of_methodNamed B.named, fun w hw => hts w (List.mem_cons_of_mem _ hw), B.returns, B.notSynchronized, hSt⟩
    have hl := lv_entry av (n := nL) hsl
    have key := body p e s m av.toArray below meth c F ((name_of_methodNamed B.named B.method).1) ht s.heap [] _ 0 0 hH va_S.rf hl (by simp) (by simp)
    rw [← lg_entry_eq] at key
    obtain ⟨t, a1, o, b1, b2, b3⟩ := key s₁ hh0 (Stand.of_body B)
    exact ⟨t, o, a1, b1, b2, b3⟩
theorem g_methW {K : gK} {y : MethodName} {cc : ByteArray} {nL : Nat} {ret : Option FieldType} {hh : List (Nat × Nat × Nat × Nat)} {f lo mc ms : Nat} {h : AH} {av : List Value} {post : gRes → AH → Prop} (hy : plainFor y = true) (hsl : (lg_sl av).length ≤ nL)
    (body : ∀ (p : Program) (e : Env) (s : State) (m : MethodId) (args : Array Value) (below : List Frame) (meth : Method) (c : Code), gFix K p s m args meth c cc nL y.cls ret → meth.name = y.name → c.exceptionTable.toList = tableOf hh → G K p e s m args below meth c (gRm f lo mc ms) nL post h mc ms 0 (lv_args 0 av) []) : gCt K y (Cond.codeWith y cc nL ret hh) f lo mc ms h av post := by
  refine MetFree.of_bodySF (code := cc) (maxLocals := nL) (ret := ret) hy ?_ ?_
  · intro args s m h0 hn
    obtain ⟨m9, meth, c, hn9, h1, h2, h3, h4, -, h5, h6, -⟩ := Cond.codeWith_spec (atoms_spec (ws := Cond.codeWith y cc nL ret hh :: lw_all) h0 _ List.mem_cons_self)
    cases hn.symm.trans hn9
    exact ⟨meth, c, h1, h2, h3, h4, h5, h6⟩
  · intro p e s m args below meth c s₁ B hml hP _
    have hh0 : s₁.heap = s.heap := by rw [B.state]; rfl
    have hts := atoms_spec (ws := Cond.codeWith y cc nL ret hh :: lw_all) B.pre
    have ht := vx_table (x := y) B (hts _ List.mem_cons_self)
    obtain ⟨rfl, hSt, hH⟩ := hP
    have F : gFix K p s m av.toArray meth c cc nL y.cls ret := ⟨B.exec, B.bytes, hml, findClass_of_methodNamed B.named, fun w hw => hts w (List.mem_cons_of_mem _ hw), B.returns, B.notSynchronized, hSt⟩
    have hl := lv_entry av (n := nL) hsl
    have key := body p e s m av.toArray below meth c F ((name_of_methodNamed B.named B.method).1) ht s.heap [] _ 0 0 hH va_S.rf hl (by simp) (by simp)
    rw [← lg_entry_eq] at key
    obtain ⟨t, a1, o, b1, b2, b3⟩ := key s₁ hh0 (Stand.of_body B)
    exact ⟨t, o, a1, b1, b2, b3⟩
/-! copies -/
theorem g_same {H : Heap} (hH : gH K h H) {a0 a : Nat} {e0 e1 : va_E} (ha0 : h a0 = some e0) (ho0 : gOld K a0 = none) (ha : h a = some e1) (ho : gOld K a = none) :
    ∃ (ws : va_W) (q0 q1 : Nat), va_P (gD K) gCl ws H ∧ va_D (gA K) ws ∧ ws[q0]? = some (a0, e0) ∧ ws[q1]? = some (a, e1) ∧ ∀ (a : Nat) (e : va_E), h a = some e ↔ ((a, e) ∈ ws ∨ gOld K a = some e) := by
  obtain ⟨ws, hP, hD, hw⟩ := hH
  rcases (hw a0 e0).mp ha0 with q | q
  · rcases (hw a e1).mp ha with r | r
    · obtain ⟨i, hi⟩ := List.getElem?_of_mem q
      obtain ⟨j, hj⟩ := List.getElem?_of_mem r
      exact ⟨ws, i, j, hP, hD, hi, hj, hw⟩
    · rw [ho] at r; cases r
  · rw [ho0] at q; cases q
/-- what a call of System.arraycopy asks -/
def gAc (own : String) (index : Nat) : Prop := Cond.methodLink own index arraycopyName ∈ lw_all ∧ Cond.native arraycopyName ∈ lw_all ∧ Cond.static arraycopyName ∈ lw_all ∧ Cond.initialized "java/lang/System" ∈ lw_all
theorem g_acpy {t index n0 n1 a0 a : Nat} {f g : Nat → Int32} {sp dp n : Int32} (F : gFix K p s m args meth c cc nL own ret) (hac : gAc own index) (ht : t < 4) (ha0 : h a0 = some (.inl (gT K t, n0, .inl f))) (ho0 : gOld K a0 = none) (ha : h a = some (.inl (gT K t, n1, .inl g))) (ho : gOld K a = none)
    (h1 : ¬ sp < 0) (h2 : ¬ dp < 0) (h3 : ¬ n < 0) (h4 : sp.toNatClampNeg + n.toNatClampNeg ≤ n0) (h5 : dp.toNatClampNeg + n.toNatClampNeg ≤ n1) (hfit : ∀ i, i < n.toNatClampNeg → fits (gTy t) (.int (f (sp.toNatClampNeg + i))) = true)
    (hfr : 1 ≤ R.frames) (hlo : (st.map fun v => v.category).sum + (nativeFrameWords "java/lang/System" "arraycopy" 5 + 11) ≤ R.locals) (hd : decode cc pc = .ok (.invokestatic index, 3))
    (kk : ∀ h1 : AH, h1 = gu h a (.inl (gT K t, n1, .inl (va_cpy f g sp.toNatClampNeg dp.toNatClampNeg n.toNatClampNeg))) → G K p e s m args below meth c R nL post h1 b bs (pc + 3) lv st) : G K p e s m args below meth c R nL post h b bs pc lv (.int n :: .int dp :: .ref a :: .int sp :: .ref a0 :: st) := by
  intro H locs ls kc ks hH hS hl hb hbs
  obtain ⟨ws, q0, q1, hP, hD, e0, e1, hw⟩ := g_same hH ha0 ho0 ha ho
  obtain ⟨w1, w2, w3, w4⟩ := hac
  exact va_copyi F.1 F.2.1 (by rw [F.2.2.1]; exact hl.1.symm) F.2.2.2.1 (F.w w1) (F.w w2) (F.w w3) (F.w w4) F.hK hP hD hS q0 q1 t t e0 e1 (gTys_at K (by omega)) (gTys_at K (by omega)) (by rcases (show t = 0 ∨ t = 1 ∨ t = 2 ∨ t = 3 by omega) with rfl | rfl | rfl | rfl <;> rfl) h1 h2 h3 h4 h5 hfit hfr hlo hd (fun H1 locs1 hP1 hD1 hS1 => kk _ rfl H1 locs1 ls kc ks (gH.put hw e1 hD ho hP1 hD1) hS1 hl hb hbs)
/-- the bytes of a String constant, copied into a new array -/
theorem g_acpyO {index n0 n1 a0 a : Nat} {f g : Nat → Int32} {sp dp n : Int32} (F : gFix K p s m args meth c cc nL own ret) (hac : gAc own index) (ho0 : gOld K a0 = some (.inl (gT K 1, n0, .inl f))) (ha : h a = some (.inl (gT K 1, n1, .inl g))) (ho : gOld K a = none)
    (h1 : ¬ sp < 0) (h2 : ¬ dp < 0) (h3 : ¬ n < 0) (h4 : sp.toNatClampNeg + n.toNatClampNeg ≤ n0) (h5 : dp.toNatClampNeg + n.toNatClampNeg ≤ n1) (hfit : ∀ i, i < n.toNatClampNeg → fits .byte (.int (f (sp.toNatClampNeg + i))) = true)
    (hfr : 1 ≤ R.frames) (hlo : (st.map fun v => v.category).sum + (nativeFrameWords "java/lang/System" "arraycopy" 5 + 11) ≤ R.locals) (hd : decode cc pc = .ok (.invokestatic index, 3))
    (kk : ∀ h1 : AH, h1 = gu h a (.inl (gT K 1, n1, .inl (va_cpy f g sp.toNatClampNeg dp.toNatClampNeg n.toNatClampNeg))) → G K p e s m args below meth c R nL post h1 b bs (pc + 3) lv st) : G K p e s m args below meth c R nL post h b bs pc lv (.int n :: .int dp :: .ref a :: .int sp :: .ref a0 :: st) := by
  intro H locs ls kc ks hH hS hl hb hbs
  obtain ⟨ws, q1, hP, hD, e1, hw⟩ := hH.look ha ho
  obtain ⟨w1, w2, w3, w4⟩ := hac
  obtain ⟨hz, t', cell, q1', q2, q3, q4, q5, q6, q7, q8, q9, q10⟩ := F.2.2.2.2.2.2.2.2.1 _ _ ho0
  have := F.inj 1 t' (by decide) q1' q2
  subst this
  have hX : va_T .byte a0 n0 (fun j => .int (f j)) (gA K) s s.heap := ⟨cell, q3, q4, q5, q7, q8, q10, by unfold gA; omega⟩
  exact vk_copyt F.1 F.2.1 (by rw [F.2.2.1]; exact hl.1.symm) F.2.2.2.1 (F.w w1) (F.w w2) (F.w w3) (F.w w4) F.hK hP hD hS hX q1 1 e1 (gTys_at K (by omega)) h1 h2 h3 h4 h5 hfit hfr hlo hd (fun H1 locs1 hP1 hD1 hS1 => kk _ rfl H1 locs1 ls kc ks (gH.put hw e1 hD ho hP1 hD1) hS1 hl hb hbs)
/-- the classes whose objects lie in Object[]s -/
def gObs : List (Nat × String) := [(2, RX2), (9, RX5), (10, RX6), (11, RX7), (12, RX17), (18, RX8)]
def gOb (h : AH) (y : Nat) : Prop := ∃ (ci : Nat) (C : String) (fs : List Value), (ci, C) ∈ gObs ∧ h y = some (.inr (ci, fs))
theorem gObs_ok : ∀ q ∈ gObs, (∃ (T : u_T) (N : Nat), gCl[q.1]? = some (q.2, T, N)) ∧ Cond.castable q.2 "java/lang/Object" ∈ lw_tbl := by
  intro q hq
  simp only [gObs, List.mem_cons, List.not_mem_nil, or_false] at hq
  rcases hq with rfl | rfl | rfl | rfl | rfl | rfl
  · exact ⟨⟨_, _, gc_X2⟩, q2707⟩
  · exact ⟨⟨_, _, gc_X5⟩, q2724⟩
  · exact ⟨⟨_, _, gc_X6⟩, q2726⟩
  · exact ⟨⟨_, _, gc_X7⟩, q2727⟩
  · exact ⟨⟨_, _, gc_X17⟩, q2731⟩
  · exact ⟨⟨_, _, gc_X8⟩, q2715⟩
theorem gOb.any {H : Heap} {locs : List Loc} (F : gFix K p s m args meth c cc nL own ret) (hH : gH K h H) (hS : va_S (gA K) s.heap H locs) {y : Nat} (hy : gOb h y) : va_Any "java/lang/Object" s H y := by
  obtain ⟨ci, C, fs, hm, ha⟩ := hy
  obtain ⟨⟨T, N, hc⟩, hw⟩ := gObs_ok _ hm
  exact gAny F hH hS hc ha (gFit.of F hw)
theorem gOb.to {h1 : AH} {y : Nat} (hE : gE h h1) (hy : gOb h y) : gOb h1 y := by
  obtain ⟨ci, C, fs, hm, ha⟩ := hy
  exact ⟨ci, C, fs, hm, hE _ _ ha⟩
theorem g_acpyQ {index n0 n1 a0 a : Nat} {f g : Nat → Option Nat} {sp dp n : Int32} (F : gFix K p s m args meth c cc nL own ret) (hac : gAc own index) (ha0 : h a0 = some (.inl (gT K 6, n0, .inr (.inr (.inr (.inr f)))))) (ho0 : gOld K a0 = none) (ha : h a = some (.inl (gT K 6, n1, .inr (.inr (.inr (.inr g)))))) (ho : gOld K a = none)
    (h1 : ¬ sp < 0) (h2 : ¬ dp < 0) (h3 : ¬ n < 0) (h4 : sp.toNatClampNeg + n.toNatClampNeg ≤ n0) (h5 : dp.toNatClampNeg + n.toNatClampNeg ≤ n1) (hel : ∀ i : Nat, i < n.toNatClampNeg → ∀ y : Nat, f (sp.toNatClampNeg + i) = some y → gOb h y)
    (hfr : 1 ≤ R.frames) (hlo : (st.map fun v => v.category).sum + (nativeFrameWords "java/lang/System" "arraycopy" 5 + 11) ≤ R.locals) (hd : decode cc pc = .ok (.invokestatic index, 3))
    (kk : ∀ h1 : AH, h1 = gu h a (.inl (gT K 6, n1, .inr (.inr (.inr (.inr (va_cpy f g sp.toNatClampNeg dp.toNatClampNeg n.toNatClampNeg)))))) → G K p e s m args below meth c R nL post h1 b bs (pc + 3) lv st) : G K p e s m args below meth c R nL post h b bs pc lv (.int n :: .int dp :: .ref a :: .int sp :: .ref a0 :: st) := by
  intro H locs ls kc ks hH hS hl hb hbs
  have hel' : ∀ i : Nat, i < n.toNatClampNeg → ∀ y : Nat, f (sp.toNatClampNeg + i) = some y → va_Any "java/lang/Object" s H y := fun i hi y hy => (hel i hi y hy).any F hH hS
  obtain ⟨ws, q0, q1, hP, hD, e0, e1, hw⟩ := g_same hH ha0 ho0 ha ho
  obtain ⟨w1, w2, w3, w4⟩ := hac
  exact va_copyM F.1 F.2.1 (by rw [F.2.2.1]; exact hl.1.symm) F.2.2.2.1 (F.w w1) (F.w w2) (F.w w3) (F.w w4) F.hK hP hD hS q0 q1 6 6 e0 e1 (gTys_at K (by omega)) (gTys_at K (by omega)) h1 h2 h3 h4 h5 hel' hfr hlo hd (fun H1 locs1 hP1 hD1 hS1 => kk _ rfl H1 locs1 ls kc ks (gH.put hw e1 hD ho hP1 hD1) hS1 hl hb hbs)
/-- ArrayList's modCount is AbstractList's -/
theorem gsm (F : gFix K p s m args meth c cc nL own ret) : ∀ x, s.fieldFound? "java/util/AbstractList" "modCount" "I" = some x → s.fieldFound? "java/util/ArrayList" "modCount" "I" = some x := by
  intro x hx
  have hw := F.w (w := Cond.sameField "java/util/ArrayList" "java/util/AbstractList" "modCount" "I") q158
  cases hy : s.fieldFound? "java/util/ArrayList" "modCount" "I" with
  | none => simp [Cond.before, Cond.holds, Cond.value, hy] at hw
  | some y =>
    obtain ⟨c9, k9, i9, f9⟩ := y
    have := Cond.sameField_spec hy hw
    rw [hx] at this
    rw [this]
end GCALLS
