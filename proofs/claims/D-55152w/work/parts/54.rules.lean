set_option maxRecDepth 100000
/-! a private method of a superclass -/
theorem vx_callVP {p : Program} {l : Launch} {e : Env} {R : Room} {s : State} {m : MethodId} {args : Array Value} {below : List Frame} {meth : Method} {c : Code} {T : State} {locs : List Loc} {cells slots : Nat} (X : Stand p l e R s m args below meth c T locs cells slots) (hexec : p.tables.exec = Jvm.exec) {own : String} {index : Nat} {y : MethodName} {bytes : ByteArray} {maxL : Nat} {ret : Option FieldType} {hh : List (Nat × Nat × Nat × Nat)}
    (hown : s.vm.findClass own = some m.cls) (hlink : (Cond.methodLink own index y).before args s = true) (hinst : (Cond.instanceMethod y).before args s = true) (hpriv : s.PrivateAt y) (hcl0 : ∀ mk : MethodId, s.methodNamed? y = some mk → ∃ kP, s.vm.classes[mk.cls]? = some kP ∧ kP.isInterface = false)
    (hcode : (Cond.codeWith y bytes maxL ret hh).before args s = true) (hy : y.cls ≠ "java/lang/invoke/MethodHandle" ∧ y.cls ≠ "java/lang/invoke/VarHandle")
    {W9 : Nat} {Pre : Pt → Array Value → Prop} {Post : Pt → Array Value → Option Value → Pt → Prop} {PostX : Pt → Array Value → Addr → Pt → Prop} (hK : vx_Back l R p e below s args y 3 W9 Pre Post PostX)
    {b : Addr} {cellB : Cell} (hcell : T.heap[b]? = some cellB) (hobj : cellB.vm.isStatics = false)
    {g : JFrame} (hg : g.method = m) (hsize : g.locals.size = c.maxLocals) {argsL rest : List Value} (hlen : ∀ sig, parseMethodDescriptor y.desc = some sig → argsL.length = sig.parameters.length)
    (hstack : g.stack = argsL.reverse ++ .ref b :: rest) (hW : 2 * g.monitorRoom + (rest.map fun v => v.category).sum ≤ W9) (hdg : decode c.code g.pc = .ok (.invokevirtual index, 3))
    (hpre : ∀ vm₁, s.WarmedH vm₁ → Pre ⟨T.setVm vm₁, locs, cells, slots⟩ (Value.ref b :: argsL).toArray) :
    (∃ (v : Option Value) (vm₁ : Vm) (B : Pt), s.WarmedH vm₁ ∧ Stand p l e R s m args below meth c B.U B.locs B.cells B.slots ∧ Post ⟨T.setVm vm₁, locs, cells, slots⟩ (Value.ref b :: argsL).toArray v B ∧
      ∀ target, Steps p.tables e below (B.U.setTop { g with pc := g.pc + 3, stack := v.toList ++ rest }) target → Steps p.tables e below (T.setTop g) target) ∨
    (∃ (q : Addr) (vm₁ : Vm) (B : Pt), s.WarmedH vm₁ ∧ Stand p l e R s m args below meth c B.U B.locs B.cells B.slots ∧ PostX ⟨T.setVm vm₁, locs, cells, slots⟩ (Value.ref b :: argsL).toArray q B ∧
      Steps p.tables e below (T.setTop g) ((B.U.setTop { g with stack := rest }).pushFrame (.throwing q))) := by
  obtain ⟨mk, methM, hnamed, hmethM, hstM, habM⟩ := Cond.instanceMethod_spec hinst
  obtain ⟨m8, methM', cM, hn8, hmethM', -, -, -, -, -, -, hsigM⟩ := Cond.codeWith_spec hcode
  cases Option.some.inj (hn8.symm.trans hnamed)
  cases hmethM.symm.trans hmethM'
  obtain ⟨kP, hkP, hkPi⟩ := hcl0 mk hnamed
  have hselP : selectMethod e.platform s.vm cellB.cls mk = .method mk := selectMethod_private hmethM (hpriv mk methM hnamed hmethM)
  obtain ⟨vm₁, X₁, hstep₁⟩ := X.invokevirtual hexec hown hlink hnamed hmethM hstM hkP hkPi hy (a := b) (cell := cellB) hcell
    (fun z h => by rw [h] at hobj; cases hobj) hselP hmethM habM hkP hkPi (g := g) hg (argsL := argsL) (rest := rest) (hlen _ hsigM) hstack hdg
  rcases hK m meth c ⟨T.setVm vm₁, locs, cells, slots⟩ { g with stack := rest } (.invokevirtual index) mk (Value.ref b :: argsL).toArray X₁ hg hsize hdg hW (X₁.named hnamed) (hpre vm₁ X₁.warmed) with ⟨v, B, X', hpost, hsteps⟩ | ⟨q, B, X', hpost, hsteps⟩
  · exact Or.inl ⟨v, vm₁, B, X₁.warmed, X', hpost, fun target h => hstep₁ _ fun acts => by rw [doInvoke_state]; exact hsteps.trans h⟩
  · exact Or.inr ⟨q, vm₁, B, X₁.warmed, X', hpost, hstep₁ _ fun acts => by rw [doInvoke_state]; exact hsteps⟩

section VP
variable {G : GG} {d : Nat} {M : Mt} {pc : Nat} {L : List (Nat × Value)} {st : List Value} {h : HP} {c : Nat} {Q : Oc → HP → Prop}
theorem r_invVP {ix : Nat} {N : Mt} {d0 c0 : Nat} {As rest : List Value} {Q1 : Oc → HP → Prop} {b ci : Nat} {fs : List Value} {r : vw_C} {C0 : String} {z : MethodName} (hd : decode (mB M) pc = .ok (.invokevirtual ix, 3)) (hC1 : Ct G d0 c0 N (.ref b :: As) h Q1) (hst : st = As.reverse ++ .ref b :: rest) (hM : mOk N) (hb : Has G h b (bO ci fs)) (hr : kCl[ci]? = some r) (hw : lk (.methodLink (mN M).cls ix (mN N))) (hi : lk (.instanceMethod (mN N))) (hpr : Cond.privateMethod (mN N) ∈ lw_tbl) (hz : lk (.selects C0 z z)) (hzc : z.cls = (mN N).cls) (hini : lk (.initialized (mN N).cls)) (hp : mPl N As.length) (hdd : d0 + 1 ≤ d) (hcc : c0 ≤ c) (hcat : (rest.map fun v => v.category).sum ≤ 8) (kr : ∀ (v : Option Value) (h' : HP), Q1 (.inl v) h' → V G d M (pc + 3) L (v.toList ++ rest) h' (c - c0) Q) (kx : ∀ (q : Nat) (h' : HP) (ci' : Nat) (fs' : List Value), Q1 (.inr q) h' → h' q = some (bO ci' fs') → VX G d M pc L h' (c - c0) q Q) : V G d M pc L st h c Q := by
  intro hG p e R s m args below meth cd Z hC hF H locs kc n ls hR hl hkc hn hls T hT X
  subst hst
  have hW := gW hC
  have hfr := hC.2.2.2.2.2.2.2.2.2
  have hp2 := hp.2.2
  have hBk := ct_back (R := R) (p := p) (e := e) (below := below) (s := s) (sargs := args) (len := 3) hG hC1 hM hini hW (by omega) (by omega)
  obtain ⟨cell, r', c1, c2, c3, c4, c5, -⟩ := has_obj hR hb
  cases c4.symm.trans hr
  have hat := ((gK hG hW).1 ci _ hr).2
  have hpriv : s.PrivateAt (mN N) := Cond.privateMethod_at (args := args) (va_tabs rfl (rfl : ((gS G).setVm s.vm).vm = s.vm) (by rw [Cond.privateMethod_setVm hW.alike]; exact hG.1 _ hpr))
  have hcl0 : ∀ mk : MethodId, s.methodNamed? (mN N) = some mk → ∃ kP, s.vm.classes[mk.cls]? = some kP ∧ kP.isInterface = false := fun mk hmk => by
    obtain ⟨c2, r2, m2, q1, q2, q3, q4, kP, hkP, hkPi⟩ := Cond.selects_spec (wd hG hW hz args)
    have f1 := findClass_of_methodNamed q3
    have f2 := findClass_of_methodNamed hmk
    rw [hzc, f2] at f1
    rw [Option.some.inj f1]
    exact ⟨kP, hkP, hkPi⟩
  rcases vx_callVP X hC.1 (gO hC) (wd hG hW hw args) (wd hG hW hi args) hpriv hcl0 (mOk_wd hG hW hM args) hp.1 hBk (b := b) (cellB := cell) (by rw [hT]; exact c1) c3 (g := F0 m pc ls (As.reverse ++ .ref b :: rest)) rfl (hls.1.trans hC.2.2.2.2.1.symm) (argsL := As) (rest := rest) (fun sig hs => by have := hp.2.1; rw [hs] at this; exact (Option.some.inj this).symm) rfl (lv_room hcat) (by rw [hC.2.1]; exact hd) (fun vm₁ hW₁ => ⟨by show kc + c0 ≤ R.cells; omega, by show n + c0 ≤ R.slots; omega, rfl, by show Rep G h T.heap; rw [hT]; exact hR, State.WarmedH.trans hW hW₁⟩) with ⟨v, vm₁, B, hW₁, X', ⟨h', Lc, hR', hQ, e1, e2, e3, e4⟩, step⟩ | ⟨q, vm₁, B, hW₁, X', ⟨h', Lc, ci', fs', hR', hq, hQ, e1, e2, e3, e4⟩, step⟩
  · have e1 : B.locs = locs ++ Lc := e1
    have e3 : B.cells = kc + c0 := e3
    have e4 : B.slots = n + c0 := e4
    obtain ⟨t, a1, a2⟩ := kr v h' hQ hG p e R s m args below meth cd Z hC hF B.U.heap B.locs B.cells B.slots ls hR' (fun q hq => by
      rw [e1] at hq
      rcases List.mem_append.mp hq with h | h
      · exact hl q h
      · exact e2 q h) (by omega) (by omega) hls B.U rfl X'
    exact ⟨t, step t a1, a2⟩
  · have e1 : B.locs = locs ++ Lc := e1
    have e3 : B.cells = kc + c0 := e3
    have e4 : B.slots = n + c0 := e4
    obtain ⟨t, a1, a2⟩ := kx q h' ci' fs' hQ hq hG p e R s m args below meth cd Z hC hF B.U.heap B.locs B.cells B.slots ls rest hR' (fun q hq => by
      rw [e1] at hq
      rcases List.mem_append.mp hq with h | h
      · exact hl q h
      · exact e2 q h) (by omega) (by omega) hls B.U rfl X'
    exact ⟨t, step.trans a1, a2⟩
abbrev clN : MethodName := ⟨"[B", "clone", "()Ljava/lang/Object;"⟩
abbrev clO : MethodName := ⟨"java/lang/Object", "clone", "()Ljava/lang/Object;"⟩
theorem r_cloneB {ix a n : Nat} {f : Nat → Int32} (hd : decode (mB M) pc = .ok (.invokevirtual ix, 3)) (hw : lk (.methodLink (mN M).cls ix clN)) (hsm : lk (.sameMethod "[B" "java/lang/Object" "clone" "()Ljava/lang/Object;")) (hna : lk (.native clO)) (hi : lk (.instanceMethod clO)) (hse : lk (.selects "[B" clN clO)) (hca : lk (.castable "[B" "java/lang/Cloneable")) (ha : h a = some (bI 1 n f)) (hdd : 1 ≤ d) (hcat : (st.map fun v => v.category).sum ≤ 8) (hc : 1 + n ≤ c) (kk : ∀ q : Nat, h q = none → V G d M (pc + 3) L (.ref q :: st) (hu h q (bI 1 n f)) (c - (1 + n)) Q) : V G d M pc L (.ref a :: st) h c Q := by
  intro hG p e R s m args below meth cd Z hC hF H locs kc n' ls hR hl hkc hn hls T hT X
  have hW := gW hC
  have hfr := hC.2.2.2.2.2.2.2.2.2
  obtain ⟨hge, hok, hat⟩ := hR.2 a _ ha
  have hat : H[a]? = some (arrV (gA G 1) n (fun j => .int (f j))) := hat
  have hokf : sb_Fit f := by
    rcases hok with h | h
    · exact absurd h Nat.one_ne_zero
    · exact h.2
  have hra : va_RA s (gA G 1) .byte := ((gK hG hW).2 1 _ (gTys_at G (by decide))).2
  have hnm : s.vm.findClass "[B" = some (gA G 1) := hra
  obtain ⟨c0, t0', f1, f2, f3⟩ := Cond.castable_spec (wd hG hW hca args)
  cases hnm.symm.trans f1
  obtain ⟨-, kA, hkA, comp, hkind⟩ := State.isArrayOf_alike X.warmed.alike ((gArr hG hW (t := 1) (by decide)) 0 (fun _ => .null))
  obtain ⟨-, kS, hkS, compS, hkindS⟩ := (gArr hG hW (t := 1) (by decide)) 0 (fun _ => .null)
  have hcellT : T.heap[a]? = some (arrV (gA G 1) n (fun j => .int (f j))) := by rw [hT]; exact hat
  have hsz : (arrV (gA G 1) n (fun j => Value.int (f j))).slots.size = n := arrV_size _ _ _
  have hE : ({ cls := (arrV (gA G 1) n (fun j => Value.int (f j))).cls, slots := (arrV (gA G 1) n (fun j => Value.int (f j))).slots } : Cell) = arrV (gA G 1) n (fun j => Value.int (f j)) := rfl
  obtain ⟨vm', X', st'⟩ := X.cloneArray hC.1 (gO hC) (wd hG hW hw args) (wd hG hW hsm args) (wd hG hW hna args) (wd hG hW hi args) (wd hG hW hse args) (a := a) (cell := arrV (gA G 1) n (fun j => .int (f j))) hcellT (fun k h => by cases h) (fun h => by cases h) hnm f2 f3
    (fun i v hv => by
      have hk' : T.vm.classes[gA G 1]? = some kA := hkA
      have hi9 : i < n := by have := (Array.getElem?_eq_some_iff.mp hv).1; rw [hsz] at this; exact this
      have hv2 : v = .int (f i) := by
        have h9 : (arrV (gA G 1) n (fun j => Value.int (f j))).slots[i]? = some (.int (f i)) := by
          simp [arrV, hi9]
        exact Option.some.inj (hv.symm.trans h9)
      have hk2 : T.vm.classes[(arrV (gA G 1) n (fun j => Value.int (f j))).cls]? = some kA := hk'
      rw [hv2]
      have h9 : fits (aT 1) (.int (f i)) = true := hokf i
      simpa [State.fitsSlot, State.slotType?, hk2, hkind] using h9)
    (g := F0 m pc ls (.ref a :: st)) rfl (hls.1.trans hC.2.2.2.2.1.symm) rfl (by rw [hC.2.1]; exact hd) (by omega) (by show 2 * 0 + _ + 14 ≤ _; omega) (by omega) (by rw [hsz]; omega) (hloader := Vm.clonesLoader_of_array hkS hkindS)
  rw [hE, hsz] at X'
  generalize hH1 : H.push (arrV (gA G 1) n (fun j => Value.int (f j))) = H1
  have z1 : H1.size = H.size + 1 := by rw [← hH1, Array.size_push]
  have e1 : H1[H.size]? = some (arrV (gA G 1) n (fun j => Value.int (f j))) := by rw [← hH1, Array.getElem?_push_size]
  have o1 : ∀ q : Nat, q < H.size → H1[q]? = H[q]? := fun q hq => by rw [← hH1, Array.getElem?_push, if_neg (Nat.ne_of_lt hq)]
  obtain ⟨hR1, hnone⟩ := hR.new (b := bI 1 n f) (H' := H1) e1 (Or.inr ⟨rfl, hokf⟩) z1 o1
  obtain ⟨t, b1, b2⟩ := kk H.size hnone hG p e R s m args below meth cd Z hC hF H1 locs (kc + 1) (n' + n) ls hR1 hl (by omega) (by omega) hls ((T.setVm vm').pushCell (arrV (gA G 1) n (fun j => Value.int (f j)))) (by rw [← hH1, ← hT]; rfl) X'
  refine ⟨t, st' t ?_, b2⟩
  rw [hE, hT]
  exact b1
theorem r_castB {ix a n : Nat} {f : Nat → Int32} (hd : decode (mB M) pc = .ok (.checkcast ix, 3)) (ha : h a = some (bI 1 n f)) (hw : lk (.classLink (mN M).cls ix "[B")) (kk : V G d M (pc + 3) L (.ref a :: st) h c Q) : V G d M pc L (.ref a :: st) h c Q := by
  intro hG p e R s m args below meth cd Z hC hF H locs k n' ls hR hl hk hn hls
  obtain ⟨hge, hok, hat⟩ := hR.2 a _ ha
  have hra : va_RA s (gA G 1) .byte := ((gK hG (gW hC)).2 1 _ (gTys_at G (by decide))).2
  have hnm : s.vm.findClass "[B" = some (gA G 1) := hra
  exact va_castA hC.1 hC.2.1 (gO hC) (wd hG (gW hC) hw args) (va_P1 hat) 0 (x := (n, .inl f)) rfl hnm hd (kk hG p e R s m args below meth cd Z hC hF H locs k n' ls hR hl hk hn hls)
end VP
