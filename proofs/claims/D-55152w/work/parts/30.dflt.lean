set_option maxRecDepth 100000
/-! a call by a class that lands in an interface's default method -/
theorem vx_callVD {p : Program} {l : Launch} {e : Env} {R : Room} {s : State} {m : MethodId} {args : Array Value} {below : List Frame} {meth : Method} {c : Code} {T : State} {locs : List Loc} {cells slots : Nat} (X : Stand p l e R s m args below meth c T locs cells slots) (hexec : p.tables.exec = Jvm.exec) {own C owner : String} {index : Nat} {x y : MethodName} {bytes : ByteArray} {maxL : Nat} {ret : Option FieldType}
    (hown : s.vm.findClass own = some m.cls) (hlink : (Cond.methodLink own index x).before args s = true) (hsame : (Cond.sameMethod x.cls owner x.name x.desc).before args s = true)
    (hdecl : (Cond.declares ⟨owner, x.name, x.desc⟩).before args s = true) (howner : owner ≠ "java/lang/invoke/MethodHandle" ∧ owner ≠ "java/lang/invoke/VarHandle")
    (hsel : (Cond.landsInDefault C x y).before args s = true) (hinst : (Cond.instanceMethod y).before args s = true) (hcode : (Cond.code y bytes maxL ret).before args s = true)
    {W : Nat} {Pre : Pt → Array Value → Prop} {Post : Pt → Array Value → Option Value → Pt → Prop} {PostX : Pt → Array Value → Addr → Pt → Prop} (hK : vx_Back l R p e below s args y 3 W Pre Post PostX)
    {b : Addr} {cellB : Cell} (hcell : T.heap[b]? = some cellB) (hobj : cellB.vm.isStatics = false) (hcls : s.vm.findClass C = some cellB.cls)
    {g : JFrame} (hg : g.method = m) (hsize : g.locals.size = c.maxLocals) {argsL rest : List Value} (hlen : ∀ sig, parseMethodDescriptor x.desc = some sig → argsL.length = sig.parameters.length)
    (hstack : g.stack = argsL.reverse ++ .ref b :: rest) (hW : 2 * g.monitorRoom + (rest.map fun v => v.category).sum ≤ W) (hdg : decode c.code g.pc = .ok (.invokevirtual index, 3))
    (hpre : ∀ vm₁, s.WarmedH vm₁ → Pre ⟨T.setVm vm₁, locs, cells, slots⟩ (Value.ref b :: argsL).toArray) :
    (∃ (v : Option Value) (vm₁ : Vm) (B : Pt), s.WarmedH vm₁ ∧ Stand p l e R s m args below meth c B.U B.locs B.cells B.slots ∧ Post ⟨T.setVm vm₁, locs, cells, slots⟩ (Value.ref b :: argsL).toArray v B ∧
      ∀ target, Steps p.tables e below (B.U.setTop { g with pc := g.pc + 3, stack := v.toList ++ rest }) target → Steps p.tables e below (T.setTop g) target) ∨
    (∃ (q : Addr) (vm₁ : Vm) (B : Pt), s.WarmedH vm₁ ∧ Stand p l e R s m args below meth c B.U B.locs B.cells B.slots ∧ PostX ⟨T.setVm vm₁, locs, cells, slots⟩ (Value.ref b :: argsL).toArray q B ∧
      Steps p.tables e below (T.setTop g) ((B.U.setTop { g with stack := rest }).pushFrame (.throwing q))) := by
  obtain ⟨r0, r, hn, hrm, hstR, hsigR⟩ := Cond.declares_spec hdecl
  obtain ⟨cn, ck, r1, hcn, hck, hni, hf, hn1⟩ := Cond.sameMethod_found hsame
  cases hn.symm.trans hn1
  obtain ⟨mk, methM, hnamed, hmethM, -, habM⟩ := Cond.instanceMethod_spec hinst
  obtain ⟨c2, r2, m2, rm, q1, q2, q3, q5, q4, ⟨kP, hkP, hkPi⟩, -, q7⟩ := Cond.landsInDefault_spec hsel
  cases hcls.symm.trans q1
  cases hf.symm.trans q2
  cases hnamed.symm.trans q3
  cases hrm.symm.trans q5
  have hselP : selectMethod e.platform s.vm cellB.cls r0 = .method mk := by rw [Launch.admits_selectMethod X.admits]; exact q4
  obtain ⟨vm₁, X₁, hstep₁⟩ := X.invokevirtualUpD hexec hown hlink hsame howner hn hrm hstR (a := b) (cell := cellB) hcell
    (fun z h => by rw [h] at hobj; cases hobj) hselP hmethM habM hkP hkPi q7 (g := g) hg (argsL := argsL) (rest := rest) (hlen _ hsigR) hstack hdg
  rcases hK m meth c ⟨T.setVm vm₁, locs, cells, slots⟩ { g with stack := rest } (.invokevirtual index) mk (Value.ref b :: argsL).toArray X₁ hg hsize hdg hW (X₁.named hnamed) (hpre vm₁ X₁.warmed) with ⟨v, B, X', hpost, hsteps⟩ | ⟨q, B, X', hpost, hsteps⟩
  · exact Or.inl ⟨v, vm₁, B, X₁.warmed, X', hpost, fun target h => hstep₁ _ fun acts => by rw [doInvoke_state]; exact hsteps.trans h⟩
  · exact Or.inr ⟨q, vm₁, B, X₁.warmed, X', hpost, hstep₁ _ fun acts => by rw [doInvoke_state]; exact hsteps⟩

def nk (w : Cond) : Prop := w ∈ flatC (Jvm.Cond.and given_1 narrow_1) ∧ okw w = true
theorem nkd {G : GG} (hG : GOk G) {U : State} (hW : (gS G).WarmedH U.vm) {w : Cond} (hw : nk w) (a : Array Value) : w.before a U = true := wd_warm hw.2 hW (flat_of_before _ hG.2.1 w hw.1)
theorem nk_land {G : GG} (hG : GOk G) {U : State} (hW : (gS G).WarmedH U.vm) {C : String} {x y : MethodName} {a : Array Value} (hw : Cond.landsInDefault C x y ∈ flatC (Jvm.Cond.and given_1 narrow_1)) : (Cond.landsInDefault C x y).before a U = true := by
  have h := flat_of_before _ hG.2.1 _ hw
  exact (Cond.landsInDefault_setVm (args := gB G) (args' := a) hW.alike (State.methodFound?_setVm hW.alike _ _ _)).trans h
theorem r_invD {G : GG} {d : Nat} {M : Mt} {pc : Nat} {L : List (Nat × Value)} {st : List Value} {h : HP} {c : Nat} {Q : Oc → HP → Prop} {ix : Nat} {N : Mt} {d0 c0 : Nat} {As rest : List Value} {Q1 : Oc → HP → Prop} {b ci : Nat} {fs : List Value} {r : vw_C} {x : MethodName} {owner : String} (hd : decode (mB M) pc = .ok (.invokevirtual ix, 3)) (hC1 : Ct G d0 c0 N (.ref b :: As) h Q1) (hst : st = As.reverse ++ .ref b :: rest) (hM : mOk N) (hb : Has G h b (bO ci fs)) (hr : kCl[ci]? = some r) (hw : nk (.methodLink (mN M).cls ix x)) (hsm : nk (.sameMethod x.cls owner x.name x.desc)) (hdc : Cond.declares ⟨owner, x.name, x.desc⟩ ∈ lw_tbl) (how : owner ≠ "java/lang/invoke/MethodHandle" ∧ owner ≠ "java/lang/invoke/VarHandle") (hse : Cond.landsInDefault r.1 x (mN N) ∈ flatC (Jvm.Cond.and given_1 narrow_1)) (hi : lk (.instanceMethod (mN N))) (hh : mH N = []) (hpx : (parseMethodDescriptor x.desc).map (fun d => d.parameters.length) = some As.length) (hini : lk (.initialized (mN N).cls)) (hp : mPl N As.length) (hdd : d0 + 1 ≤ d) (hcc : c0 ≤ c) (hcat : (rest.map fun v => v.category).sum ≤ 8) (kr : ∀ (v : Option Value) (h' : HP), Q1 (.inl v) h' → V G d M (pc + 3) L (v.toList ++ rest) h' (c - c0) Q) (kx : ∀ (q : Nat) (h' : HP) (ci' : Nat) (fs' : List Value), Q1 (.inr q) h' → h' q = some (bO ci' fs') → VX G d M pc L h' (c - c0) q Q) : V G d M pc L st h c Q := by
  intro hG p e R s m args below meth cd Z hC hF H locs kc n ls hR hl hkc hn hls T hT X
  subst hst
  have hW := gW hC
  have hfr := hC.2.2.2.2.2.2.2.2.2
  have hp2 := hp.2.2
  have hBk := ct_back (R := R) (p := p) (e := e) (below := below) (s := s) (sargs := args) (len := 3) hG hC1 hM hini hW (by omega) (by omega)
  obtain ⟨cell, r', c1, c2, c3, c4, c5, -⟩ := has_obj hR hb
  cases c4.symm.trans hr
  have hat := ((gK hG hW).1 ci _ hr).2
  have hcl : s.vm.findClass r.1 = some cell.cls := by rw [c5]; exact hat.1
  have hdecl := hG.1 _ hdc
  have hdecl : (Cond.declares ⟨owner, x.name, x.desc⟩).before args s = true := wd_warm rfl hW hdecl
  have hland : (Cond.landsInDefault r.1 x (mN N)).before args s = true := nk_land hG hW hse
  rcases vx_callVD X hC.1 (gO hC) (nkd hG hW hw args) (nkd hG hW hsm args) hdecl how hland (wd hG hW hi args) (mOk_wd0 hG hW hM hh args) hBk (b := b) (cellB := cell) (by rw [hT]; exact c1) c3 hcl (g := F0 m pc ls (As.reverse ++ .ref b :: rest)) rfl (hls.1.trans hC.2.2.2.2.1.symm) (argsL := As) (rest := rest) (fun sig hs => by have := hpx; rw [hs] at this; exact (Option.some.inj this).symm) rfl (lv_room hcat) (by rw [hC.2.1]; exact hd) (fun vm₁ hW₁ => ⟨by show kc + c0 ≤ R.cells; omega, by show n + c0 ≤ R.slots; omega, rfl, by show Rep G h T.heap; rw [hT]; exact hR, State.WarmedH.trans hW hW₁⟩) with ⟨v, vm₁, B, hW₁, X', ⟨h', Lc, hR', hQ, e1, e2, e3, e4⟩, step⟩ | ⟨q, vm₁, B, hW₁, X', ⟨h', Lc, ci', fs', hR', hq, hQ, e1, e2, e3, e4⟩, step⟩
  · have e1 : B.locs = locs ++ Lc := e1
    have e3 : B.cells = kc + c0 := e3
    have e4 : B.slots = n + c0 := e4
    obtain ⟨t, a1, a2⟩ := kr v h' hQ hG p e R s m args below meth cd Z hC hF B.U.heap B.locs B.cells B.slots ls hR' (fun q hq => by
      rw [e1] at hq
      rcases List.mem_append.mp hq with h | h
      · exact hl q h
      · exact e2 q h) (by omega) (by omega) hls B.U rfl X'
    exact ⟨t, step t a1, a2⟩
  · have e1 : B.locs = locs ++ Lc := e1
    have e3 : B.cells = kc + c0 := e3
    have e4 : B.slots = n + c0 := e4
    obtain ⟨t, a1, a2⟩ := kx q h' ci' fs' hQ hq hG p e R s m args below meth cd Z hC hF B.U.heap B.locs B.cells B.slots ls rest hR' (fun q hq => by
      rw [e1] at hq
      rcases List.mem_append.mp hq with h | h
      · exact hl q h
      · exact e2 q h) (by omega) (by omega) hls B.U rfl X'
    exact ⟨t, step.trans a1, a2⟩

