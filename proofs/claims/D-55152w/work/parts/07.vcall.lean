set_option maxRecDepth 100000
/-! ### contracts -/
/-- what a method owes at its end: what it wrote lies behind the start's heap, its room, an outcome and the new heap -/
def gQ (G : GG) (c : Nat) (Q : Oc → HP → Prop) : Array Value → State → Outcome → State → Prop := fun _ st o t =>
  st.WarmedH t.vm ∧ (∃ L : List Loc, st.sameButNew ({ t with vm := st.vm } : State) L c c ∧ ∀ z ∈ L, gz G ≤ z.base) ∧ ∃ h' : HP, Rep G h' t.heap ∧ ((∃ v, o = .returned v ∧ Q (.inl v) h') ∨ ∃ q ci fs, o = .threw q ∧ h' q = some (bO ci fs) ∧ Q (.inr q) h')
def ctP (G : GG) (As : List Value) (h : HP) : Array Value → State → Prop := fun a U => a = As.toArray ∧ Rep G h U.heap ∧ (gS G).WarmedH U.vm
/-- THE CONTRACT: called with As in the heap h, at depth d, with credit c -/
def Ct (G : GG) (d c : Nat) (M : Mt) (As : List Value) (h : HP) (Q : Oc → HP → Prop) : Prop :=
  GOk G → MetFree (gL G) (mN M) (headSpec [mW M] ({ frames := d, cells := c, slots := c, locals := 256 * d } : Room)) (ctP G As h) (fun _ _ _ _ _ => True) (gQ G c Q)
theorem Ct.mono {G : GG} {d c : Nat} {M : Mt} {As : List Value} {h : HP} {Q Q' : Oc → HP → Prop} (hC : Ct G d c M As h Q') (hQ : ∀ o h', Q' o h' → Q o h') : Ct G d c M As h Q := by
  intro hG p e h1 h2 h3 s m args below h4 h5 h6 h7
  obtain ⟨n, o, a1, a2, a3, a4, a5, h', a6, a7⟩ := hC hG p e h1 h2 h3 s m args below h4 h5 h6 h7
  refine ⟨n, o, a1, a2, a3, a4, a5, h', a6, ?_⟩
  rcases a7 with ⟨v, e1, e2⟩ | ⟨q, ci, fs, e1, e2, e3⟩
  · exact Or.inl ⟨v, e1, hQ _ _ e2⟩
  · exact Or.inr ⟨q, ci, fs, e1, e2, hQ _ _ e3⟩
def ctPost (G : GG) (c : Nat) (Q : Oc → HP → Prop) : Pt → Array Value → Option Value → Pt → Prop := fun A _ v B =>
  ∃ (h' : HP) (L : List Loc), Rep G h' B.U.heap ∧ Q (.inl v) h' ∧ B.locs = A.locs ++ L ∧ (∀ z ∈ L, gz G ≤ z.base) ∧ B.cells = A.cells + c ∧ B.slots = A.slots + c
def ctPostX (G : GG) (c : Nat) (Q : Oc → HP → Prop) : Pt → Array Value → Addr → Pt → Prop := fun A _ q B =>
  ∃ (h' : HP) (L : List Loc) (ci : Nat) (fs : List Value), Rep G h' B.U.heap ∧ h' q = some (bO ci fs) ∧ Q (.inr q) h' ∧ B.locs = A.locs ++ L ∧ (∀ z ∈ L, gz G ≤ z.base) ∧ B.cells = A.cells + c ∧ B.slots = A.slots + c
theorem ct_back {G : GG} {d0 c : Nat} {M : Mt} {As : List Value} {h0 : HP} {Q : Oc → HP → Prop} (hG : GOk G) (hC : Ct G d0 c M As h0 Q) (hM : mOk M) (hini0 : lk (.initialized (mN M).cls)) {R : Room} {p : Program} {e : Env} {below : List Frame} {s : State} {sargs : Array Value} {len : Nat} (hWs : (gS G).WarmedH s.vm) (hframes : d0 + 1 ≤ R.frames) (hlocals : 8 + (mL M + 11) + 256 * d0 ≤ R.locals) :
    vx_Back (gL G) R p e below s sargs (mN M) len 8 (PreOf R c c (ctP G As h0)) (ctPost G c Q) (ctPostX G c Q) := by
  have hM0 := hC hG
  intro m meth cc A g ig mk a X hg hsize hdg hW hn hp
  have hwA : (gS G).WarmedH A.U.vm := State.WarmedH.trans hWs X.warmed
  have h2 : (mW M).before a A.U = true := mOk_wd hG hwA hM a
  have h1 : (headSpec [mW M] ({ frames := d0, cells := c, slots := c, locals := 256 * d0 } : Room)).pre.before a A.U = true := atoms_intro fun w hw => by
    rw [List.mem_singleton.mp hw]
    exact h2
  have h3 : (Cond.initialized (mN M).cls).before a A.U = true := wd hG hwA hini0 a
  have h4 : A.cells + c ≤ R.cells := hp.1
  have h5 : A.slots + c ≤ R.slots := hp.2.1
  have hPc : ctP G As h0 a (A.U.calling g mk a) := hp.2.2
  obtain ⟨U, Ls, c0, s0⟩ := A
  dsimp only [Pt.U, Pt.locs, Pt.cells, Pt.slots] at h1 h2 h3 h4 h5 X hn hPc ⊢
  obtain ⟨m9, methY, cY, hn9, hmY, hcY, -, hlY, -, -, -, -⟩ := Cond.codeWith_spec h2
  cases hn.symm.trans hn9
  obtain ⟨kY, hkY, -⟩ := className_of_methodNamed hn
  have hinitY : kY.init = .initialized := Cond.initialized_spec (findClass_of_methodNamed hn) hkY h3
  have h : At U g.method cc below := by rw [hg]; exact X.here
  have happ : (headSpec [mW M] ({ frames := d0, cells := c, slots := c, locals := 256 * d0 } : Room)).appliesLoose (mN M) e.platform (U.calling g mk a) = true :=
    Spec.appliesLoose_calling (g := g) h hdg hn hkY hinitY
      (X.room_calling (g := g) (R' := ({ frames := d0, cells := c, slots := c, locals := 256 * d0 } : Room)) hsize hmY hcY hframes (by rw [hlY]; show _ + 256 * d0 ≤ _; omega) h4 h5) h1
  obtain ⟨mid, hmid⟩ := h.above
  have hfr : (U.setTop g).frames = (.java g :: mid) ++ below := by rw [State.frames_setTop' g h.top, hmid]; rfl
  obtain ⟨o, s₂, hsteps, -, hend, hq⟩ := Steps.callFree hM0 p X.admits X.cas X.clock (acts := []) hfr happ hPc trivial
  have hq' : gQ G c Q a (U.calling g mk a) o s₂ := hq
  rw [State.frames_setTop' g h.top] at hend
  obtain ⟨g₀, hg0⟩ := Option.isSome_iff_exists.mp h.top
  obtain ⟨r, hr⟩ := State.topJava?_eq_some.mp hg0
  have hr' : (({ U with heap := s₂.heap, slotsUsed := s₂.slotsUsed } : State).setVm s₂.vm).frames = .java g₀ :: r := hr
  obtain ⟨hW₂, ⟨L, hsm, hL⟩, hh, hRep, ho⟩ := hq'
  rcases ho with ⟨v, rfl, hqv⟩ | ⟨q, ci, fs, rfl, hcell, hqv⟩
  · obtain ⟨e2, q2, q3, q4, q5, q6⟩ := id hsm
    have e3 : s₂ = ({ (U.calling g mk a).setFrames s₂.frames with heap := s₂.heap, slotsUsed := s₂.slotsUsed } : State).setVm s₂.vm := by
      have : s₂ = ({ s₂ with vm := (U.calling g mk a).vm } : State).setVm s₂.vm := rfl
      rw [e2] at this
      exact this
    obtain ⟨c₂, i₂, len₂, hc₂, hd₂, hf₂⟩ := hend
    have hW' : U.WarmedH s₂.vm := hW₂
    have hcc : c₂ = cc := by
      have h1 : s₂.code? g.method = U.code? g.method := by
        rw [State.code?_eq, State.code?_eq, hW'.alike.method?]
      exact Option.some.inj (hc₂.symm.trans (h1.trans h.code))
    subst hcc
    have hlen : len₂ = len := by rw [hdg] at hd₂; cases hd₂; rfl
    subst hlen
    have hs₂ : s₂ = (({ U with heap := s₂.heap, slotsUsed := s₂.slotsUsed } : State).setVm s₂.vm).setTop { g with pc := g.pc + len₂, stack := v.toList ++ g.stack } := by
      refine e3.trans ?_
      rw [hf₂, State.calling_eq h.top, State.setFrames_setFrames, State.setTop_of_frames _ hr', hr]
      rfl
    have hsame : U.sameButNew ({ U with heap := s₂.heap, slotsUsed := s₂.slotsUsed } : State) L c c := by
      refine ⟨?_, q2, q3, q4, q5, q6⟩
      obtain ⟨t, ht, -⟩ := State.frames_cons hr
      show ({ U with heap := s₂.heap, slotsUsed := s₂.slotsUsed } : State) = { U.setFrames U.frames with heap := s₂.heap, slotsUsed := s₂.slotsUsed }
      rw [State.setFrames_self ht]
    subst hg
    refine Or.inl ⟨v, ⟨(({ U with heap := s₂.heap, slotsUsed := s₂.slotsUsed } : State).setVm s₂.vm), Ls ++ L, c0 + c, s0 + c⟩,
      ⟨X.admits, X.cas, X.clock, X.frames, X.room, X.hears, X.method, X.code, (X.here.setHeapUsed s₂.heap s₂.slotsUsed).setVm hW'.alike, X.tail, State.WarmedH.trans X.warmed hW', X.limits, X.bytes, X.same.trans (hsame.setVm s.vm)⟩,
      ⟨hh, L, hRep, hqv, rfl, hL, rfl, rfl⟩, ?_⟩
    show Steps p.tables e below _ ((({ U with heap := s₂.heap, slotsUsed := s₂.slotsUsed } : State).setVm s₂.vm).setTop { g with pc := g.pc + len₂, stack := v.toList ++ g.stack })
    rw [← hs₂]
    exact hsteps
  · obtain ⟨e2, q2, q3, q4, q5, q6⟩ := id hsm
    have e3 : s₂ = ({ (U.calling g mk a).setFrames s₂.frames with heap := s₂.heap, slotsUsed := s₂.slotsUsed } : State).setVm s₂.vm := by
      have : s₂ = ({ s₂ with vm := (U.calling g mk a).vm } : State).setVm s₂.vm := rfl
      rw [e2] at this
      exact this
    have hf₂ : s₂.frames = .throwing q :: .java g :: U.frames.tail := hend
    have hW' : U.WarmedH s₂.vm := hW₂
    have hs₂ : s₂ = ((({ U with heap := s₂.heap, slotsUsed := s₂.slotsUsed } : State).setVm s₂.vm).setTop g).pushFrame (.throwing q) := by
      refine e3.trans ?_
      rw [hf₂, State.calling_eq h.top, State.setFrames_setFrames, State.pushFrame, State.frames_setTop _ hr', State.setTop_of_frames _ hr', State.setFrames_setFrames, hr]
      rfl
    have hsame : U.sameButNew ({ U with heap := s₂.heap, slotsUsed := s₂.slotsUsed } : State) L c c := by
      refine ⟨?_, q2, q3, q4, q5, q6⟩
      obtain ⟨t, ht, -⟩ := State.frames_cons hr
      show ({ U with heap := s₂.heap, slotsUsed := s₂.slotsUsed } : State) = { U.setFrames U.frames with heap := s₂.heap, slotsUsed := s₂.slotsUsed }
      rw [State.setFrames_self ht]
    subst hg
    refine Or.inr ⟨q, ⟨(({ U with heap := s₂.heap, slotsUsed := s₂.slotsUsed } : State).setVm s₂.vm), Ls ++ L, c0 + c, s0 + c⟩,
      ⟨X.admits, X.cas, X.clock, X.frames, X.room, X.hears, X.method, X.code, (X.here.setHeapUsed s₂.heap s₂.slotsUsed).setVm hW'.alike, X.tail, State.WarmedH.trans X.warmed hW', X.limits, X.bytes, X.same.trans (hsame.setVm s.vm)⟩,
      ⟨hh, L, ci, fs, hRep, hcell, hqv, rfl, hL, rfl, rfl⟩, ?_⟩
    show Steps p.tables e below _ (((({ U with heap := s₂.heap, slotsUsed := s₂.slotsUsed } : State).setVm s₂.vm).setTop g).pushFrame (.throwing q))
    rw [← hs₂]
    exact hsteps
theorem W_mono {p : Program} {l : Launch} {e : Env} {R : Room} {s : State} {m : MethodId} {args : Array Value} {below : List Frame} {meth : Method} {c : Code} {H : Heap} {locs : List Loc} {cells slots : Nat} {Q Q' : State → Prop} {g : JFrame} (h : W p l e R s m args below meth c H locs cells slots Q g) (hq : ∀ t, Q t → Q' t) : W p l e R s m args below meth c H locs cells slots Q' g := fun T hT X => by
  obtain ⟨t, a, b⟩ := h T hT X
  exact ⟨t, a, hq t b⟩
/-- a contract out of its body -/
theorem ct_intro {G : GG} {d c : Nat} {M : Mt} {As : List Value} {h : HP} {Q : Oc → HP → Prop} (hy : plainName (mN M).cls = true) (hn : (lg_sl As).length ≤ mL M) (hV : V G d M 0 (lv_args 0 As) [] h c Q) : Ct G d c M As h Q := by
  intro hG
  refine MetFree.of_bodyS (code := mB M) (maxLocals := mL M) (ret := mR M) hy ?_ ?_
  · intro args s m h hn
    obtain ⟨m9, meth, c, hn9, h1, h2, h3, h4, -, h5, h6, -⟩ := Cond.codeWith_spec (atoms_spec (ws := [mW M]) h _ List.mem_cons_self)
    cases hn.symm.trans hn9
    exact ⟨meth, c, h1, h2, h3, h4, h5, h6⟩
  · intro p e s m args below meth cd s₁ B hml hP _
    obtain ⟨rfl, hRep, hWs⟩ := hP
    have hh0 : s₁.heap = s.heap := by rw [B.state]; rfl
    have htab := vx_table (x := mN M) B (atoms_spec (ws := [mW M]) B.pre _ List.mem_cons_self)
    have hCx : Cx G M d p ({ frames := d, cells := c, slots := c, locals := 256 * d } : Room) s m meth cd := ⟨B.exec, B.bytes, B.returns, B.notSynchronized, hml, htab, findClass_of_methodNamed B.named, (name_of_methodNamed B.named B.method).1, hWs, Nat.le_refl _, Nat.le_refl _⟩
    have hFin : Fin_ G M p e ({ frames := d, cells := c, slots := c, locals := 256 * d } : Room) s m As.toArray below meth cd Q (fun t => ∃ o, t.status = .running ∧ Ended t below o ∧ gQ G c Q As.toArray s o t) := by
      refine ⟨fun v h' H locs k n pc ls st i hQ hR hl hk hn' hr hd => ?_, fun q ci fs h' H locs k n pc ls st hQ hR hq hl hk hn' hcov => ?_⟩
      · have hfr : ∀ t : State, (MQ below (fun _ _ o t => o = .returned v ∧ t.heap = H) As.toArray s c c (fun q => gz G ≤ q)) t → ∃ o, t.status = .running ∧ Ended t below o ∧ gQ G c Q As.toArray s o t := by
          rintro t ⟨o, a1, a2, ⟨rfl, a3⟩, L, ⟨-, a4, a5⟩, a6⟩
          exact ⟨_, a1, a2, a4, ⟨L, a5, a6⟩, h', by rw [a3]; exact hR, Or.inl ⟨v, rfl, hQ⟩⟩
        refine W_mono (W.widen (k := c) (n := c) hk hn' ?_) hfr
        have hlk := B.notSynchronized
        rcases hr with ⟨rfl, e1, rfl, rfl⟩ | ⟨ty, x, rfl, e1, e2, rfl, rfl⟩ | ⟨rt, w, rfl, e1, e2, e3, rfl, rfl⟩ | ⟨x, rfl, e1, rfl, rfl⟩ | ⟨x, rfl, e1, rfl, rfl⟩
        · exact W.vret B.exec B.bytes (B.returns.trans e1) (fun t ht _ => ⟨rfl, ht⟩) hl hd
        · exact W.zret B.exec B.bytes (B.returns.trans e1) e2 (fun t ht _ => ⟨rfl, ht⟩) hl hd
        · exact W.aret B.exec B.bytes (B.returns.trans e1) e2 e3 (fun t ht _ => ⟨rfl, ht⟩) hl hd
        · exact W.fret B.exec B.bytes (B.returns.trans e1) (fun t ht _ => ⟨rfl, ht⟩) hl hd
        · exact W.dret B.exec B.bytes (B.returns.trans e1) (fun t ht _ => ⟨rfl, ht⟩) hl hd
      · intro T hT X
        obtain ⟨st1, hrun, hend, hW, hsm⟩ := X.leaveThrown q (g := F0 m pc ls st) rfl rfl rfl (by rw [htab]; exact hcov) B.notSynchronized
        exact ⟨_, st1, .threw q, hrun, hend, hW, ⟨locs, hsm.mono hk hn', hl⟩, h', by show Rep G h' T.heap; rw [hT]; exact hR, Or.inr ⟨q, ci, fs, rfl, hq, hQ⟩⟩
    have key := hV hG p e _ s m As.toArray below meth cd _ hCx hFin s.heap [] 0 0 _ hRep (fun q hq => by cases hq) (Nat.le_of_eq (Nat.zero_add c)) (Nat.le_of_eq (Nat.zero_add c)) (lv_entry As hn)
    rw [← lg_entry_eq] at key
    obtain ⟨t, a1, o, b1, b2, b3⟩ := key s₁ hh0 (Stand.of_body B)
    exact ⟨t, o, a1, b1, b2, b3⟩
