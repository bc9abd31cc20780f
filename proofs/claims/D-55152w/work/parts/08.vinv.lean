set_option maxRecDepth 100000
def mPl (N : Mt) (n : Nat) : Prop := ((mN N).cls ≠ "java/lang/invoke/MethodHandle" ∧ (mN N).cls ≠ "java/lang/invoke/VarHandle") ∧ (parseMethodDescriptor (mN N).desc).map (fun d => d.parameters.length) = some n ∧ mL N ≤ 200
section VI
variable {G : GG} {d : Nat} {M : Mt} {pc : Nat} {L : List (Nat × Value)} {st : List Value} {h : HP} {c : Nat} {Q : Oc → HP → Prop}
theorem r_ret {i : Instr} {v : Option Value} (hd : decode (mB M) pc = .ok (i, 1)) (hr : rOk (mR M) i st v) (hQ : Q (.inl v) h) : V G d M pc L st h c Q := by
  intro hG p e R s m args below meth cd Z hC hF H locs k n ls hR hl hk hn hls
  exact hF.1 v h H locs k n pc ls st i hQ hR hl (by omega) (by omega) hr hd
theorem r_return (hd : decode (mB M) pc = .ok (.return_, 1)) (hm : mR M = none) (hQ : Q (.inl none) h) : V G d M pc L [] h c Q := r_ret hd (Or.inl ⟨rfl, hm, rfl, rfl⟩) hQ
theorem r_ireturn {ty : FieldType} {x : Int32} (hd : decode (mB M) pc = .ok (.ireturn, 1)) (hm : mR M = some ty) (hn : narrow ty (.int x) = .int x) (hQ : Q (.inl (some (.int x))) h) : V G d M pc L [.int x] h c Q := r_ret hd (Or.inr (Or.inl ⟨ty, x, rfl, hm, hn, rfl, rfl⟩)) hQ
def isRfT (t : FieldType) : Bool := match t with
  | .object _ => true
  | .array _ => true
  | _ => false
theorem isRfT_ok {t : FieldType} (h : isRfT t = true) : (∃ n, t = .object n) ∨ ∃ u, t = .array u := by
  cases t <;> first | exact Or.inl ⟨_, rfl⟩ | exact Or.inr ⟨_, rfl⟩ | cases h
theorem r_areturnq {rt : FieldType} {x : Option Nat} (hd : decode (mB M) pc = .ok (.areturn, 1)) (hm : mR M = some rt) (ht : isRfT rt = true) (hQ : Q (.inl (some (va_rf x))) h) : V G d M pc L [va_rf x] h c Q := r_ret hd (Or.inr (Or.inr (Or.inl ⟨rt, va_rf x, rfl, hm, isRfT_ok ht, by cases x; exact Or.inl rfl; exact Or.inr ⟨_, rfl⟩, rfl, rfl⟩))) hQ
theorem r_areturn {rt : FieldType} {x : Nat} (hd : decode (mB M) pc = .ok (.areturn, 1)) (hm : mR M = some rt) (ht : isRfT rt = true) (hQ : Q (.inl (some (.ref x))) h) : V G d M pc L [.ref x] h c Q := r_areturnq (x := some x) hd hm ht hQ
theorem r_areturnN {rt : FieldType} (hd : decode (mB M) pc = .ok (.areturn, 1)) (hm : mR M = some rt) (ht : isRfT rt = true) (hQ : Q (.inl (some .null)) h) : V G d M pc L [.null] h c Q := r_areturnq (x := none) hd hm ht hQ
theorem r_freturn {x : UInt32} (hd : decode (mB M) pc = .ok (.freturn, 1)) (hm : mR M = some .float) (hQ : Q (.inl (some (.float x))) h) : V G d M pc L [.float x] h c Q := r_ret hd (Or.inr (Or.inr (Or.inr (Or.inl ⟨x, rfl, hm, rfl, rfl⟩)))) hQ
theorem r_dreturn {x : UInt64} (hd : decode (mB M) pc = .ok (.dreturn, 1)) (hm : mR M = some .double) (hQ : Q (.inl (some (.double x))) h) : V G d M pc L [.double x] h c Q := r_ret hd (Or.inr (Or.inr (Or.inr (Or.inr ⟨x, rfl, hm, rfl, rfl⟩)))) hQ
theorem r_athrow {q : Nat} (hd : decode (mB M) pc = .ok (.athrow, 1)) (kk : VX G d M pc L h c q Q) : V G d M pc L (.ref q :: st) h c Q := by
  intro hG p e R s m args below meth cd Z hC hF H locs k n ls hR hl hk hn hls
  exact vx_athrow hC.1 hC.2.1 hd (kk hG p e R s m args below meth cd Z hC hF H locs k n ls st hR hl hk hn hls)
theorem r_out {q ci : Nat} {fs : List Value} (hq : h q = some (bO ci fs)) (hcov : (tableOf (mH M)).all (fun x => !covers x pc) = true) (hQ : Q (.inr q) h) : VX G d M pc L h c q Q := by
  intro hG p e R s m args below meth cd Z hC hF H locs k n ls rest hR hl hk hn hls
  exact hF.2 q ci fs h H locs k n pc ls rest hQ hR hq hl (by omega) (by omega) (fun x hx => by
    have h9 := List.all_eq_true.mp hcov x hx
    cases hcv : covers x pc
    · rfl
    · rw [hcv] at h9; cases h9)
/-- a handler of this method takes it; the handlers ahead of it don't cover the place, or name a class that it isn't of -/
theorem r_catch {q ci : Nat} {fs : List Value} {r : vw_C} {name : String} (hq : h q = some (bO ci fs)) (hr : kCl[ci]? = some r) (pre : List ExceptionTableEntry) (x : ExceptionTableEntry) (suf : List ExceptionTableEntry) (hsplit : tableOf (mH M) = pre ++ x :: suf) (hpass : ∀ z ∈ pre, covers z pc = false ∨ (z.catchType ≠ 0 ∧ ∃ nm : String, lk (.classLink (mN M).cls z.catchType nm) ∧ (GOk G → va_Nc r.1 nm (gS G)))) (hx : covers x pc = true) (h0 : x.catchType ≠ 0) (hlink : lk (.classLink (mN M).cls x.catchType name)) (hcast : lk (.castable r.1 name)) (kk : V G d M x.handlerPc L [.ref q] h c Q) : VX G d M pc L h c q Q := by
  intro hG p e R s m args below meth cd Z hC hF H locs k n ls rest hR hl hk hn hls
  have hW := gW hC
  obtain ⟨hge, -, r', h1, cell, q1, q2, q3, q4⟩ := hR.2 q _ hq
  have h1 : kCl[ci]? = some r' := h1
  cases h1.symm.trans hr
  refine vx_catch (gO hC) pre x suf (hC.2.2.2.2.2.1.trans hsplit) (fun z hz => ?_) hx h0 (wd hG hW hlink args) (wd hG hW hcast args) q1 q3 (by rw [q2]; exact ((gK hG hW).1 ci _ hr).2.1) (kk hG p e R s m args below meth cd Z hC hF H locs k n ls hR hl hk hn hls)
  rcases hpass z hz with h | ⟨h0, nm, a1, a2⟩
  · exact Or.inl h
  · exact Or.inr ⟨h0, nm, wd hG hW a1 args, (a2 hG).moved hW.alike⟩
theorem r_objinit {ix : Nat} {a : Nat} {w1 : Cond} (hd : decode (mB M) pc = .ok (.invokespecial ix, 3)) (hw : lk (.methodLink (mN M).cls ix Lib.objectInit)) (hi : lk (.instanceMethod Lib.objectInit)) (hc0 : lk (.code Lib.objectInit ⟨#[0xb1]⟩ 1 none)) (hdd : 1 ≤ d) (hcat : (st.map fun v => v.category).sum ≤ 8) (kk : V G d M (pc + 3) L st h c Q) : V G d M pc L (.ref a :: st) h c Q := by
  intro hG p e R s m args below meth cd Z hC hF H locs k n ls hR hl hk hn hls
  have hW := gW hC
  have hf := hC.2.2.2.2.2.2.2.2.2
  exact W.objInit hC.1 hC.2.1 (gO hC) (wd hG hW hw args) (wd hG hW hi args) (wd hG hW hc0 args) rfl (hls.1.trans hC.2.2.2.2.1.symm) rfl hd (by omega) (by show 2 * 0 + _ + 12 ≤ _; omega) (kk hG p e R s m args below meth cd Z hC hF H locs k n ls hR hl hk hn hls)
theorem r_castS {ix a ci : Nat} {fs : List Value} {r : vw_C} (hd : decode (mB M) pc = .ok (.checkcast ix, 3)) (ha : Has G h a (bO ci fs)) (hr : kCl[ci]? = some r) (hw : lk (.classLink (mN M).cls ix r.1)) (kk : V G d M (pc + 3) L (.ref a :: st) h c Q) : V G d M pc L (.ref a :: st) h c Q := by
  intro hG p e R s m args below meth cd Z hC hF H locs k n ls hR hl hk hn hls
  obtain ⟨cell, r', c1, c2, c3, c4, c5, -⟩ := has_obj hR ha
  cases c4.symm.trans hr
  have hcl := ((gK hG (gW hC)).1 ci _ hr).2
  exact va_castS hC.1 hC.2.1 (gO hC) (wd hG (gW hC) hw args) hcl ⟨cell, c1, c3, by rw [c5]; exact hcl.1⟩ hd (kk hG p e R s m args below meth cd Z hC hF H locs k n ls hR hl hk hn hls)
theorem r_castN {ix : Nat} (hd : decode (mB M) pc = .ok (.checkcast ix, 3)) (kk : V G d M (pc + 3) L (.null :: st) h c Q) : V G d M pc L (.null :: st) h c Q :=
  V.lift (fun p e R s m args below meth cd H locs k n Z ls hG hC hl w => lv_castN hC.1 hC.2.1 hd w) kk
theorem r_castY {ix a ci : Nat} {fs : List Value} {r : vw_C} {nm : String} (hd : decode (mB M) pc = .ok (.checkcast ix, 3)) (ha : Has G h a (bO ci fs)) (hr : kCl[ci]? = some r) (hw : lk (.classLink (mN M).cls ix nm)) (hca : lk (.castable r.1 nm)) (kk : V G d M (pc + 3) L (.ref a :: st) h c Q) : V G d M pc L (.ref a :: st) h c Q := by
  intro hG p e R s m args below meth cd Z hC hF H locs k n ls hR hl hk hn hls
  obtain ⟨cell, r', c1, c2, c3, c4, c5, -⟩ := has_obj hR ha
  cases c4.symm.trans hr
  have hcl := ((gK hG (gW hC)).1 ci _ hr).2
  exact va_castY hC.1 hC.2.1 (gO hC) (wd hG (gW hC) hw args) (wd hG (gW hC) hca #[]) ⟨cell, c1, c3, by rw [c5]; exact hcl.1⟩ hd (kk hG p e R s m args below meth cd Z hC hF H locs k n ls hR hl hk hn hls)
theorem r_instE {ix a ci : Nat} {fs : List Value} {r : vw_C} (hd : decode (mB M) pc = .ok (.instanceof ix, 3)) (ha : Has G h a (bO ci fs)) (hr : kCl[ci]? = some r) (hw : lk (.classLink (mN M).cls ix r.1)) (kk : V G d M (pc + 3) L (.int 1 :: st) h c Q) : V G d M pc L (.ref a :: st) h c Q := by
  intro hG p e R s m args below meth cd Z hC hF H locs k n ls hR hl hk hn hls
  obtain ⟨cell, r', c1, c2, c3, c4, c5, -⟩ := has_obj hR ha
  cases c4.symm.trans hr
  have hcl := ((gK hG (gW hC)).1 ci _ hr).2
  exact va_instE hC.1 hC.2.1 (gO hC) (wd hG (gW hC) hw args) ⟨cell, c1, c3, by rw [c5]; exact hcl.1⟩ hd (kk hG p e R s m args below meth cd Z hC hF H locs k n ls hR hl hk hn hls)
/-- a String constant: its address, as the start has it -/
def Str (G : GG) (own : String) (k : Nat) (tx : String) (a : Nat) : Prop := vk_R own k tx a (gS G)
theorem r_ldcS {ix a : Nat} {tx : String} (hd : decode (mB M) pc = .ok (.ldc ix, 2)) (hw : Str G (mN M).cls ix tx a) (kk : V G d M (pc + 2) L (.ref a :: st) h c Q) : V G d M pc L st h c Q :=
  V.lift (fun p e R s m args below meth cd H locs k n Z ls hG hC hl w => va_ldcS hC.1 hC.2.1 (gO hC) (vk_R.warm (gW hC) hw) hd w) kk
/-- a static field, as the start has it -/
def Stt (G : GG) (C n d : String) (v : Value) : Prop := va_Z C n d v (fun q => gz G ≤ q) (gS G) (gS G).heap
theorem r_getstatic {ix : Nat} {C ref nm ds : String} {v : Value} (hd : decode (mB M) pc = .ok (.getstatic ix, 3)) (hw : lk (.fieldLink (mN M).cls ix ref nm ds)) (hs : ref = C ∨ lk (.sameField ref C nm ds)) (hv : Stt G C nm ds v) (kk : V G d M (pc + 3) L (v :: st) h c Q) : V G d M pc L st h c Q := by
  intro hG p e R s m args below meth cd Z hC hF H locs k n ls hR hl hk hn hls
  obtain ⟨cf, kf, fi, f, a, cell, h1, h2, h3, h4, h5, h6, h7, h8⟩ := va_Z.moved (gW hC).alike hv
  have hl9 := (Array.getElem?_eq_some_iff.mp h5).1
  have hs' : ∀ x, s.fieldFound? C nm ds = some x → s.fieldFound? ref nm ds = some x := by
    rcases hs with rfl | hs
    · exact fun _ h => h
    · exact u_same (wd hG (gW hC) hs #[])
  exact W.gets hC.1 hC.2.1 (gO hC) (wd hG (gW hC) hw args) (hs' _ h1) h2 h3 h4 (by rw [hR.1.2 a hl9]; exact h5) (fun e => by rw [e] at h6; cases h6) h7 rfl hd (kk hG p e R s m args below meth cd Z hC hF H locs k n ls hR hl hk hn hls)

theorem r_invV {ix : Nat} {N : Mt} {d0 c0 : Nat} {As rest : List Value} {Q1 : Oc → HP → Prop} {b ci : Nat} {fs : List Value} {r : vw_C} (hd : decode (mB M) pc = .ok (.invokevirtual ix, 3)) (hC1 : Ct G d0 c0 N (.ref b :: As) h Q1) (hst : st = As.reverse ++ .ref b :: rest) (hM : mOk N) (hb : Has G h b (bO ci fs)) (hr : kCl[ci]? = some r) (hw : lk (.methodLink (mN M).cls ix (mN N))) (hi : lk (.instanceMethod (mN N))) (hse : lk (.selects (mN N).cls (mN N) (mN N))) (hcn : r.1 = (mN N).cls) (hini : lk (.initialized (mN N).cls)) (hp : mPl N As.length) (hdd : d0 + 1 ≤ d) (hcc : c0 ≤ c) (hcat : (rest.map fun v => v.category).sum ≤ 8) (kr : ∀ (v : Option Value) (h' : HP), Q1 (.inl v) h' → V G d M (pc + 3) L (v.toList ++ rest) h' (c - c0) Q) (kx : ∀ (q : Nat) (h' : HP) (ci' : Nat) (fs' : List Value), Q1 (.inr q) h' → h' q = some (bO ci' fs') → VX G d M pc L h' (c - c0) q Q) : V G d M pc L st h c Q := by
  intro hG p e R s m args below meth cd Z hC hF H locs kc n ls hR hl hkc hn hls T hT X
  subst hst
  have hW := gW hC
  have hfr := hC.2.2.2.2.2.2.2.2.2
  have hp2 := hp.2.2
  have hBk := ct_back (R := R) (p := p) (e := e) (below := below) (s := s) (sargs := args) (len := 3) hG hC1 hM hini hW (by omega) (by omega)
  obtain ⟨cell, r', c1, c2, c3, c4, c5, -⟩ := has_obj hR hb
  cases c4.symm.trans hr
  have hat := ((gK hG hW).1 ci _ hr).2
  have hcl : s.vm.findClass (mN N).cls = some cell.cls := by rw [c5, ← hcn]; exact hat.1
  rcases vx_callVX X hC.1 (gO hC) (wd hG hW hw args) (wd hG hW hi args) (wd hG hW hse args) (mOk_wd hG hW hM args) hp.1 hBk (b := b) (cellB := cell) (by rw [hT]; exact c1) c3 hcl (g := F0 m pc ls (As.reverse ++ .ref b :: rest)) rfl (hls.1.trans hC.2.2.2.2.1.symm) (argsL := As) (rest := rest) (fun sig hs => by have := hp.2.1; rw [hs] at this; exact (Option.some.inj this).symm) rfl (lv_room hcat) (by rw [hC.2.1]; exact hd) (fun vm₁ hW₁ => ⟨by show kc + c0 ≤ R.cells; omega, by show n + c0 ≤ R.slots; omega, rfl, by show Rep G h T.heap; rw [hT]; exact hR, State.WarmedH.trans hW hW₁⟩) with ⟨v, vm₁, B, hW₁, X', ⟨h', Lc, hR', hQ, e1, e2, e3, e4⟩, step⟩ | ⟨q, vm₁, B, hW₁, X', ⟨h', Lc, ci', fs', hR', hq, hQ, e1, e2, e3, e4⟩, step⟩
  · have e1 : B.locs = locs ++ Lc := e1
    have e3 : B.cells = kc + c0 := e3
    have e4 : B.slots = n + c0 := e4
    obtain ⟨t, a1, a2⟩ := kr v h' hQ hG p e R s m args below meth cd Z hC hF B.U.heap B.locs B.cells B.slots ls hR' (fun q hq => by
      rw [e1] at hq
      rcases List.mem_append.mp hq with h | h
      · exact hl q h
      · exact e2 q h) (by omega) (by omega) hls B.U rfl X'
    exact ⟨t, step t a1, a2⟩
  · have e1 : B.locs = locs ++ Lc := e1
    have e3 : B.cells = kc + c0 := e3
    have e4 : B.slots = n + c0 := e4
    obtain ⟨t, a1, a2⟩ := kx q h' ci' fs' hQ hq hG p e R s m args below meth cd Z hC hF B.U.heap B.locs B.cells B.slots ls rest hR' (fun q hq => by
      rw [e1] at hq
      rcases List.mem_append.mp hq with h | h
      · exact hl q h
      · exact e2 q h) (by omega) (by omega) hls B.U rfl X'
    exact ⟨t, step.trans a1, a2⟩
theorem r_invS {ix : Nat} {N : Mt} {d0 c0 : Nat} {As rest : List Value} {Q1 : Oc → HP → Prop} (hd : decode (mB M) pc = .ok (.invokestatic ix, 3)) (hC1 : Ct G d0 c0 N As h Q1) (hst : st = As.reverse ++ rest) (hM : mOk N) (hw : lk (.methodLink (mN M).cls ix (mN N))) (hs : lk (.static (mN N))) (hini : lk (.initialized (mN N).cls)) (hp : mPl N As.length) (hdd : d0 + 1 ≤ d) (hcc : c0 ≤ c) (hcat : (rest.map fun v => v.category).sum ≤ 8) (kr : ∀ (v : Option Value) (h' : HP), Q1 (.inl v) h' → V G d M (pc + 3) L (v.toList ++ rest) h' (c - c0) Q) (kx : ∀ (q : Nat) (h' : HP) (ci' : Nat) (fs' : List Value), Q1 (.inr q) h' → h' q = some (bO ci' fs') → VX G d M pc L h' (c - c0) q Q) : V G d M pc L st h c Q := by
  intro hG p e R s m args below meth cd Z hC hF H locs kc n ls hR hl hkc hn hls T hT X
  subst hst
  have hW := gW hC
  have hfr := hC.2.2.2.2.2.2.2.2.2
  have hp2 := hp.2.2
  have hBk := ct_back (R := R) (p := p) (e := e) (below := below) (s := s) (sargs := args) (len := 3) hG hC1 hM hini hW (by omega) (by omega)
  rcases vx_callSX X hC.1 (gO hC) (wd hG hW hw args) (wd hG hW hs args) (wd hG hW hini args) (mOk_wd hG hW hM args) hp.1 hBk (g := F0 m pc ls (As.reverse ++ rest)) rfl (hls.1.trans hC.2.2.2.2.1.symm) (argsL := As) (rest := rest) (fun sig hs => by have := hp.2.1; rw [hs] at this; exact (Option.some.inj this).symm) rfl (lv_room hcat) (by rw [hC.2.1]; exact hd) (fun vm₁ hW₁ => ⟨by show kc + c0 ≤ R.cells; omega, by show n + c0 ≤ R.slots; omega, rfl, by show Rep G h T.heap; rw [hT]; exact hR, State.WarmedH.trans hW hW₁⟩) with ⟨v, vm₁, B, hW₁, X', ⟨h', Lc, hR', hQ, e1, e2, e3, e4⟩, step⟩ | ⟨q, vm₁, B, hW₁, X', ⟨h', Lc, ci', fs', hR', hq, hQ, e1, e2, e3, e4⟩, step⟩
  · have e1 : B.locs = locs ++ Lc := e1
    have e3 : B.cells = kc + c0 := e3
    have e4 : B.slots = n + c0 := e4
    obtain ⟨t, a1, a2⟩ := kr v h' hQ hG p e R s m args below meth cd Z hC hF B.U.heap B.locs B.cells B.slots ls hR' (fun q hq => by
      rw [e1] at hq
      rcases List.mem_append.mp hq with h | h
      · exact hl q h
      · exact e2 q h) (by omega) (by omega) hls B.U rfl X'
    exact ⟨t, step t a1, a2⟩
  · have e1 : B.locs = locs ++ Lc := e1
    have e3 : B.cells = kc + c0 := e3
    have e4 : B.slots = n + c0 := e4
    obtain ⟨t, a1, a2⟩ := kx q h' ci' fs' hQ hq hG p e R s m args below meth cd Z hC hF B.U.heap B.locs B.cells B.slots ls rest hR' (fun q hq => by
      rw [e1] at hq
      rcases List.mem_append.mp hq with h | h
      · exact hl q h
      · exact e2 q h) (by omega) (by omega) hls B.U rfl X'
    exact ⟨t, step.trans a1, a2⟩
theorem r_invI {ix : Nat} {N : Mt} {d0 c0 : Nat} {As rest : List Value} {Q1 : Oc → HP → Prop} {b : Nat} (hd : decode (mB M) pc = .ok (.invokespecial ix, 3)) (hC1 : Ct G d0 c0 N (.ref b :: As) h Q1) (hst : st = As.reverse ++ .ref b :: rest) (hM : mOk N) (hw : lk (.methodLink (mN M).cls ix (mN N))) (hi : lk (.instanceMethod (mN N))) (hnm : (mN N).name = "<init>") (hh : mH N = []) (hret : mR N = none) (hini : lk (.initialized (mN N).cls)) (hp : mPl N As.length) (hdd : d0 + 1 ≤ d) (hcc : c0 ≤ c) (hcat : (rest.map fun v => v.category).sum ≤ 8) (kr : ∀ (v : Option Value) (h' : HP), Q1 (.inl v) h' → V G d M (pc + 3) L (v.toList ++ rest) h' (c - c0) Q) (kx : ∀ (q : Nat) (h' : HP) (ci' : Nat) (fs' : List Value), Q1 (.inr q) h' → h' q = some (bO ci' fs') → VX G d M pc L h' (c - c0) q Q) : V G d M pc L st h c Q := by
  intro hG p e R s m args below meth cd Z hC hF H locs kc n ls hR hl hkc hn hls T hT X
  subst hst
  have hW := gW hC
  have hfr := hC.2.2.2.2.2.2.2.2.2
  have hp2 := hp.2.2
  have hBk := ct_back (R := R) (p := p) (e := e) (below := below) (s := s) (sargs := args) (len := 3) hG hC1 hM hini hW (by omega) (by omega)
  have hcode : (Cond.code (mN N) (mB N) (mL N) none).before args s = true := by have := mOk_wd0 hG hW hM hh args; rwa [hret] at this
  rcases vx_callI X hC.1 (gO hC) hnm (wd hG hW hw args) (wd hG hW hi args) hcode hp.1 hBk (a := b) (g := F0 m pc ls (As.reverse ++ .ref b :: rest)) rfl (hls.1.trans hC.2.2.2.2.1.symm) (argsL := As) (rest := rest) (fun sig hs => by have := hp.2.1; rw [hs] at this; exact (Option.some.inj this).symm) rfl (lv_room hcat) (by rw [hC.2.1]; exact hd) (fun vm₁ hW₁ => ⟨by show kc + c0 ≤ R.cells; omega, by show n + c0 ≤ R.slots; omega, rfl, by show Rep G h T.heap; rw [hT]; exact hR, State.WarmedH.trans hW hW₁⟩) with ⟨v, vm₁, B, hW₁, X', ⟨h', Lc, hR', hQ, e1, e2, e3, e4⟩, step⟩ | ⟨q, vm₁, B, hW₁, X', ⟨h', Lc, ci', fs', hR', hq, hQ, e1, e2, e3, e4⟩, step⟩
  · have e1 : B.locs = locs ++ Lc := e1
    have e3 : B.cells = kc + c0 := e3
    have e4 : B.slots = n + c0 := e4
    obtain ⟨t, a1, a2⟩ := kr v h' hQ hG p e R s m args below meth cd Z hC hF B.U.heap B.locs B.cells B.slots ls hR' (fun q hq => by
      rw [e1] at hq
      rcases List.mem_append.mp hq with h | h
      · exact hl q h
      · exact e2 q h) (by omega) (by omega) hls B.U rfl X'
    exact ⟨t, step t a1, a2⟩
  · have e1 : B.locs = locs ++ Lc := e1
    have e3 : B.cells = kc + c0 := e3
    have e4 : B.slots = n + c0 := e4
    obtain ⟨t, a1, a2⟩ := kx q h' ci' fs' hQ hq hG p e R s m args below meth cd Z hC hF B.U.heap B.locs B.cells B.slots ls rest hR' (fun q hq => by
      rw [e1] at hq
      rcases List.mem_append.mp hq with h | h
      · exact hl q h
      · exact e2 q h) (by omega) (by omega) hls B.U rfl X'
    exact ⟨t, step.trans a1, a2⟩
theorem r_invSN {ix : Nat} {N : Mt} {d0 c0 : Nat} {As rest : List Value} {Q1 : Oc → HP → Prop} {host : String} (hd : decode (mB M) pc = .ok (.invokestatic ix, 3)) (hC1 : Ct G d0 c0 N As h Q1) (hst : st = As.reverse ++ rest) (hM : mOk N) (hw : lk (.methodLinkNest (mN M).cls ix (mN N) host)) (hs : lk (.static (mN N))) (hh : mH N = []) (hini : lk (.initialized (mN N).cls)) (hp : mPl N As.length) (hdd : d0 + 1 ≤ d) (hcc : c0 ≤ c) (hcat : (rest.map fun v => v.category).sum ≤ 8) (kr : ∀ (v : Option Value) (h' : HP), Q1 (.inl v) h' → V G d M (pc + 3) L (v.toList ++ rest) h' (c - c0) Q) (kx : ∀ (q : Nat) (h' : HP) (ci' : Nat) (fs' : List Value), Q1 (.inr q) h' → h' q = some (bO ci' fs') → VX G d M pc L h' (c - c0) q Q) : V G d M pc L st h c Q := by
  intro hG p e R s m args below meth cd Z hC hF H locs kc n ls hR hl hkc hn hls T hT X
  subst hst
  have hW := gW hC
  have hfr := hC.2.2.2.2.2.2.2.2.2
  have hp2 := hp.2.2
  have hBk := ct_back (R := R) (p := p) (e := e) (below := below) (s := s) (sargs := args) (len := 3) hG hC1 hM hini hW (by omega) (by omega)
  rcases vx_callSN X hC.1 (gO hC) (wd hG hW hw args) (wd hG hW hs args) (wd hG hW hini args) (mOk_wd0 hG hW hM hh args) hp.1 hBk (g := F0 m pc ls (As.reverse ++ rest)) rfl (hls.1.trans hC.2.2.2.2.1.symm) (argsL := As) (rest := rest) (fun sig hs => by have := hp.2.1; rw [hs] at this; exact (Option.some.inj this).symm) rfl (lv_room hcat) (by rw [hC.2.1]; exact hd) (fun vm₁ hW₁ => ⟨by show kc + c0 ≤ R.cells; omega, by show n + c0 ≤ R.slots; omega, rfl, by show Rep G h T.heap; rw [hT]; exact hR, State.WarmedH.trans hW hW₁⟩) with ⟨v, vm₁, B, hW₁, X', ⟨h', Lc, hR', hQ, e1, e2, e3, e4⟩, step⟩ | ⟨q, vm₁, B, hW₁, X', ⟨h', Lc, ci', fs', hR', hq, hQ, e1, e2, e3, e4⟩, step⟩
  · have e1 : B.locs = locs ++ Lc := e1
    have e3 : B.cells = kc + c0 := e3
    have e4 : B.slots = n + c0 := e4
    obtain ⟨t, a1, a2⟩ := kr v h' hQ hG p e R s m args below meth cd Z hC hF B.U.heap B.locs B.cells B.slots ls hR' (fun q hq => by
      rw [e1] at hq
      rcases List.mem_append.mp hq with h | h
      · exact hl q h
      · exact e2 q h) (by omega) (by omega) hls B.U rfl X'
    exact ⟨t, step t a1, a2⟩
  · have e1 : B.locs = locs ++ Lc := e1
    have e3 : B.cells = kc + c0 := e3
    have e4 : B.slots = n + c0 := e4
    obtain ⟨t, a1, a2⟩ := kx q h' ci' fs' hQ hq hG p e R s m args below meth cd Z hC hF B.U.heap B.locs B.cells B.slots ls rest hR' (fun q hq => by
      rw [e1] at hq
      rcases List.mem_append.mp hq with h | h
      · exact hl q h
      · exact e2 q h) (by omega) (by omega) hls B.U rfl X'
    exact ⟨t, step.trans a1, a2⟩
theorem r_invVN {ix : Nat} {N : Mt} {d0 c0 : Nat} {As rest : List Value} {Q1 : Oc → HP → Prop} {b ci : Nat} {fs : List Value} {r : vw_C} {host : String} (hd : decode (mB M) pc = .ok (.invokevirtual ix, 3)) (hC1 : Ct G d0 c0 N (.ref b :: As) h Q1) (hst : st = As.reverse ++ .ref b :: rest) (hM : mOk N) (hb : Has G h b (bO ci fs)) (hr : kCl[ci]? = some r) (hw : lk (.methodLinkNest (mN M).cls ix (mN N) host)) (hi : lk (.instanceMethod (mN N))) (hse : lk (.selects (mN N).cls (mN N) (mN N))) (hcn : r.1 = (mN N).cls) (hh : mH N = []) (hini : lk (.initialized (mN N).cls)) (hp : mPl N As.length) (hdd : d0 + 1 ≤ d) (hcc : c0 ≤ c) (hcat : (rest.map fun v => v.category).sum ≤ 8) (kr : ∀ (v : Option Value) (h' : HP), Q1 (.inl v) h' → V G d M (pc + 3) L (v.toList ++ rest) h' (c - c0) Q) (kx : ∀ (q : Nat) (h' : HP) (ci' : Nat) (fs' : List Value), Q1 (.inr q) h' → h' q = some (bO ci' fs') → VX G d M pc L h' (c - c0) q Q) : V G d M pc L st h c Q := by
  intro hG p e R s m args below meth cd Z hC hF H locs kc n ls hR hl hkc hn hls T hT X
  subst hst
  have hW := gW hC
  have hfr := hC.2.2.2.2.2.2.2.2.2
  have hp2 := hp.2.2
  have hBk := ct_back (R := R) (p := p) (e := e) (below := below) (s := s) (sargs := args) (len := 3) hG hC1 hM hini hW (by omega) (by omega)
  obtain ⟨cell, r', c1, c2, c3, c4, c5, -⟩ := has_obj hR hb
  cases c4.symm.trans hr
  have hat := ((gK hG hW).1 ci _ hr).2
  have hcl : s.vm.findClass (mN N).cls = some cell.cls := by rw [c5, ← hcn]; exact hat.1
  rcases vx_callVN X hC.1 (gO hC) (wd hG hW hw args) (wd hG hW hi args) (wd hG hW hse args) (mOk_wd0 hG hW hM hh args) hp.1 hBk (b := b) (cellB := cell) (by rw [hT]; exact c1) c3 hcl (g := F0 m pc ls (As.reverse ++ .ref b :: rest)) rfl (hls.1.trans hC.2.2.2.2.1.symm) (argsL := As) (rest := rest) (fun sig hs => by have := hp.2.1; rw [hs] at this; exact (Option.some.inj this).symm) rfl (lv_room hcat) (by rw [hC.2.1]; exact hd) (fun vm₁ hW₁ => ⟨by show kc + c0 ≤ R.cells; omega, by show n + c0 ≤ R.slots; omega, rfl, by show Rep G h T.heap; rw [hT]; exact hR, State.WarmedH.trans hW hW₁⟩) with ⟨v, vm₁, B, hW₁, X', ⟨h', Lc, hR', hQ, e1, e2, e3, e4⟩, step⟩ | ⟨q, vm₁, B, hW₁, X', ⟨h', Lc, ci', fs', hR', hq, hQ, e1, e2, e3, e4⟩, step⟩
  · have e1 : B.locs = locs ++ Lc := e1
    have e3 : B.cells = kc + c0 := e3
    have e4 : B.slots = n + c0 := e4
    obtain ⟨t, a1, a2⟩ := kr v h' hQ hG p e R s m args below meth cd Z hC hF B.U.heap B.locs B.cells B.slots ls hR' (fun q hq => by
      rw [e1] at hq
      rcases List.mem_append.mp hq with h | h
      · exact hl q h
      · exact e2 q h) (by omega) (by omega) hls B.U rfl X'
    exact ⟨t, step t a1, a2⟩
  · have e1 : B.locs = locs ++ Lc := e1
    have e3 : B.cells = kc + c0 := e3
    have e4 : B.slots = n + c0 := e4
    obtain ⟨t, a1, a2⟩ := kx q h' ci' fs' hQ hq hG p e R s m args below meth cd Z hC hF B.U.heap B.locs B.cells B.slots ls rest hR' (fun q hq => by
      rw [e1] at hq
      rcases List.mem_append.mp hq with h | h
      · exact hl q h
      · exact e2 q h) (by omega) (by omega) hls B.U rfl X'
    exact ⟨t, step.trans a1, a2⟩
theorem r_invU {ix : Nat} {N : Mt} {d0 c0 : Nat} {As rest : List Value} {Q1 : Oc → HP → Prop} {b ci : Nat} {fs : List Value} {r : vw_C} {x : MethodName} {owner : String} (hd : decode (mB M) pc = .ok (.invokevirtual ix, 3)) (hC1 : Ct G d0 c0 N (.ref b :: As) h Q1) (hst : st = As.reverse ++ .ref b :: rest) (hM : mOk N) (hb : Has G h b (bO ci fs)) (hr : kCl[ci]? = some r) (hw : lk (.methodLink (mN M).cls ix x)) (hsm : lk (.sameMethod x.cls owner x.name x.desc)) (hdc : (lk (.instanceMethod ⟨owner, x.name, x.desc⟩) ∧ ∃ (by9 : ByteArray) (mL9 : Nat) (rt9 : Option FieldType), lk (.code ⟨owner, x.name, x.desc⟩ by9 mL9 rt9)) ∨ lk (.declares ⟨owner, x.name, x.desc⟩)) (how : owner ≠ "java/lang/invoke/MethodHandle" ∧ owner ≠ "java/lang/invoke/VarHandle") (hse : lk (.selects r.1 x (mN N))) (hi : lk (.instanceMethod (mN N))) (hh : mH N = []) (hpx : (parseMethodDescriptor x.desc).map (fun d => d.parameters.length) = some As.length) (hini : lk (.initialized (mN N).cls)) (hp : mPl N As.length) (hdd : d0 + 1 ≤ d) (hcc : c0 ≤ c) (hcat : (rest.map fun v => v.category).sum ≤ 8) (kr : ∀ (v : Option Value) (h' : HP), Q1 (.inl v) h' → V G d M (pc + 3) L (v.toList ++ rest) h' (c - c0) Q) (kx : ∀ (q : Nat) (h' : HP) (ci' : Nat) (fs' : List Value), Q1 (.inr q) h' → h' q = some (bO ci' fs') → VX G d M pc L h' (c - c0) q Q) : V G d M pc L st h c Q := by
  intro hG p e R s m args below meth cd Z hC hF H locs kc n ls hR hl hkc hn hls T hT X
  subst hst
  have hW := gW hC
  have hfr := hC.2.2.2.2.2.2.2.2.2
  have hp2 := hp.2.2
  have hBk := ct_back (R := R) (p := p) (e := e) (below := below) (s := s) (sargs := args) (len := 3) hG hC1 hM hini hW (by omega) (by omega)
  obtain ⟨cell, r', c1, c2, c3, c4, c5, -⟩ := has_obj hR hb
  cases c4.symm.trans hr
  have hat := ((gK hG hW).1 ci _ hr).2
  have hcl : s.vm.findClass r.1 = some cell.cls := by rw [c5]; exact hat.1
  have hdecl : va_Decl s ⟨owner, x.name, x.desc⟩ := by
    rcases hdc with ⟨g1, by9, mL9, rt9, g2⟩ | g
    · exact va_Decl.of (args := args) (wd hG hW g1 args) (wd hG hW g2 args)
    · exact va_Decl.abs (wd hG hW g #[])
  rcases vx_callVU X hC.1 (gO hC) (wd hG hW hw args) (wd hG hW hsm args) hdecl how (wd hG hW hse args) (wd hG hW hi args) (mOk_wd0 hG hW hM hh args) hBk (b := b) (cellB := cell) (by rw [hT]; exact c1) c3 hcl (g := F0 m pc ls (As.reverse ++ .ref b :: rest)) rfl (hls.1.trans hC.2.2.2.2.1.symm) (argsL := As) (rest := rest) (fun sig hs => by have := hpx; rw [hs] at this; exact (Option.some.inj this).symm) rfl (lv_room hcat) (by rw [hC.2.1]; exact hd) (fun vm₁ hW₁ => ⟨by show kc + c0 ≤ R.cells; omega, by show n + c0 ≤ R.slots; omega, rfl, by show Rep G h T.heap; rw [hT]; exact hR, State.WarmedH.trans hW hW₁⟩) with ⟨v, vm₁, B, hW₁, X', ⟨h', Lc, hR', hQ, e1, e2, e3, e4⟩, step⟩ | ⟨q, vm₁, B, hW₁, X', ⟨h', Lc, ci', fs', hR', hq, hQ, e1, e2, e3, e4⟩, step⟩
  · have e1 : B.locs = locs ++ Lc := e1
    have e3 : B.cells = kc + c0 := e3
    have e4 : B.slots = n + c0 := e4
    obtain ⟨t, a1, a2⟩ := kr v h' hQ hG p e R s m args below meth cd Z hC hF B.U.heap B.locs B.cells B.slots ls hR' (fun q hq => by
      rw [e1] at hq
      rcases List.mem_append.mp hq with h | h
      · exact hl q h
      · exact e2 q h) (by omega) (by omega) hls B.U rfl X'
    exact ⟨t, step t a1, a2⟩
  · have e1 : B.locs = locs ++ Lc := e1
    have e3 : B.cells = kc + c0 := e3
    have e4 : B.slots = n + c0 := e4
    obtain ⟨t, a1, a2⟩ := kx q h' ci' fs' hQ hq hG p e R s m args below meth cd Z hC hF B.U.heap B.locs B.cells B.slots ls rest hR' (fun q hq => by
      rw [e1] at hq
      rcases List.mem_append.mp hq with h | h
      · exact hl q h
      · exact e2 q h) (by omega) (by omega) hls B.U rfl X'
    exact ⟨t, step.trans a1, a2⟩
theorem r_invSU {ix : Nat} {N : Mt} {d0 c0 : Nat} {As rest : List Value} {Q1 : Oc → HP → Prop} {b ci : Nat} {fs : List Value} {r : vw_C} (hd : decode (mB M) pc = .ok (.invokespecial ix, 3)) (hC1 : Ct G d0 c0 N (.ref b :: As) h Q1) (hst : st = As.reverse ++ .ref b :: rest) (hM : mOk N) (hb : Has G h b (bO ci fs)) (hr : kCl[ci]? = some r) (hw : lk (.methodLink (mN M).cls ix (mN N))) (hsm : lk (.sameMethod (mN N).cls (mN N).cls (mN N).name (mN N).desc)) (hsp : lk (.superclass (mN M).cls (mN N).cls)) (hi : lk (.instanceMethod (mN N))) (hh : mH N = []) (hno : (mN N).name ≠ "<init>") (hini : lk (.initialized (mN N).cls)) (hp : mPl N As.length) (hdd : d0 + 1 ≤ d) (hcc : c0 ≤ c) (hcat : (rest.map fun v => v.category).sum ≤ 8) (kr : ∀ (v : Option Value) (h' : HP), Q1 (.inl v) h' → V G d M (pc + 3) L (v.toList ++ rest) h' (c - c0) Q) (kx : ∀ (q : Nat) (h' : HP) (ci' : Nat) (fs' : List Value), Q1 (.inr q) h' → h' q = some (bO ci' fs') → VX G d M pc L h' (c - c0) q Q) : V G d M pc L st h c Q := by
  intro hG p e R s m args below meth cd Z hC hF H locs kc n ls hR hl hkc hn hls T hT X
  subst hst
  have hW := gW hC
  have hfr := hC.2.2.2.2.2.2.2.2.2
  have hp2 := hp.2.2
  have hBk := ct_back (R := R) (p := p) (e := e) (below := below) (s := s) (sargs := args) (len := 3) hG hC1 hM hini hW (by omega) (by omega)
  obtain ⟨cell, r', c1, c2, c3, c4, c5, -⟩ := has_obj hR hb
  cases c4.symm.trans hr
  have hat := ((gK hG hW).1 ci _ hr).2
  obtain ⟨kB, hkB, -⟩ := hat.2
  rcases vx_callSU X hC.1 (gO hC) (wd hG hW hw args) (wd hG hW hsm args) (wd hG hW hsp args) (wd hG hW hi args) (mOk_wd0 hG hW hM hh args) hno hBk (b := b) (cellB := cell) (kB := kB) (by rw [hT]; exact c1) c3 (by rw [c5]; exact hkB) (g := F0 m pc ls (As.reverse ++ .ref b :: rest)) rfl (hls.1.trans hC.2.2.2.2.1.symm) (argsL := As) (rest := rest) (fun sig hs => by have := hp.2.1; rw [hs] at this; exact (Option.some.inj this).symm) rfl (lv_room hcat) (by rw [hC.2.1]; exact hd) (fun vm₁ hW₁ => ⟨by show kc + c0 ≤ R.cells; omega, by show n + c0 ≤ R.slots; omega, rfl, by show Rep G h T.heap; rw [hT]; exact hR, State.WarmedH.trans hW hW₁⟩) with ⟨v, vm₁, B, hW₁, X', ⟨h', Lc, hR', hQ, e1, e2, e3, e4⟩, step⟩ | ⟨q, vm₁, B, hW₁, X', ⟨h', Lc, ci', fs', hR', hq, hQ, e1, e2, e3, e4⟩, step⟩
  · have e1 : B.locs = locs ++ Lc := e1
    have e3 : B.cells = kc + c0 := e3
    have e4 : B.slots = n + c0 := e4
    obtain ⟨t, a1, a2⟩ := kr v h' hQ hG p e R s m args below meth cd Z hC hF B.U.heap B.locs B.cells B.slots ls hR' (fun q hq => by
      rw [e1] at hq
      rcases List.mem_append.mp hq with h | h
      · exact hl q h
      · exact e2 q h) (by omega) (by omega) hls B.U rfl X'
    exact ⟨t, step t a1, a2⟩
  · have e1 : B.locs = locs ++ Lc := e1
    have e3 : B.cells = kc + c0 := e3
    have e4 : B.slots = n + c0 := e4
    obtain ⟨t, a1, a2⟩ := kx q h' ci' fs' hQ hq hG p e R s m args below meth cd Z hC hF B.U.heap B.locs B.cells B.slots ls rest hR' (fun q hq => by
      rw [e1] at hq
      rcases List.mem_append.mp hq with h | h
      · exact hl q h
      · exact e2 q h) (by omega) (by omega) hls B.U rfl X'
    exact ⟨t, step.trans a1, a2⟩
theorem r_invF {ix : Nat} {N : Mt} {d0 c0 : Nat} {As rest : List Value} {Q1 : Oc → HP → Prop} {b ci : Nat} {fs : List Value} {r : vw_C} {x : MethodName} {cnt : Nat} (hd : decode (mB M) pc = .ok (.invokeinterface ix cnt, 5)) (hC1 : Ct G d0 c0 N (.ref b :: As) h Q1) (hst : st = As.reverse ++ .ref b :: rest) (hM : mOk N) (hb : Has G h b (bO ci fs)) (hr : kCl[ci]? = some r) (hw : lk (.methodLink (mN M).cls ix x)) (h5 : Cond.declares x ∈ lw_tbl ∧ Cond.interfaceMethod x.cls x.cls x.name x.desc ∈ lw_tbl ∧ Cond.publicMethod (mN N) ∈ lw_tbl ∧ Cond.unhidden r.1 x.name x.desc ∈ lw_tbl ∧ Cond.castable r.1 x.cls ∈ lw_tbl) (hx : x.cls ≠ "java/lang/invoke/MethodHandle" ∧ x.cls ≠ "java/lang/invoke/VarHandle") (hse : lk (.selects r.1 x (mN N))) (hi : lk (.instanceMethod (mN N))) (hh : mH N = []) (hpx : (parseMethodDescriptor x.desc).map (fun d => d.parameters.length) = some As.length) (hini : lk (.initialized (mN N).cls)) (hp : mPl N As.length) (hdd : d0 + 1 ≤ d) (hcc : c0 ≤ c) (hcat : (rest.map fun v => v.category).sum ≤ 8) (kr : ∀ (v : Option Value) (h' : HP), Q1 (.inl v) h' → V G d M (pc + 5) L (v.toList ++ rest) h' (c - c0) Q) (kx : ∀ (q : Nat) (h' : HP) (ci' : Nat) (fs' : List Value), Q1 (.inr q) h' → h' q = some (bO ci' fs') → VX G d M pc L h' (c - c0) q Q) : V G d M pc L st h c Q := by
  intro hG p e R s m args below meth cd Z hC hF H locs kc n ls hR hl hkc hn hls T hT X
  subst hst
  have hW := gW hC
  have hfr := hC.2.2.2.2.2.2.2.2.2
  have hp2 := hp.2.2
  have hBk := ct_back (R := R) (p := p) (e := e) (below := below) (s := s) (sargs := args) (len := 5) hG hC1 hM hini hW (by omega) (by omega)
  obtain ⟨cell, r', c1, c2, c3, c4, c5, -⟩ := has_obj hR hb
  cases c4.symm.trans hr
  have hat := ((gK hG hW).1 ci _ hr).2
  have hcl : s.vm.findClass r.1 = some cell.cls := by rw [c5]; exact hat.1
  obtain ⟨kB, hkB, -⟩ := hat.2
  obtain ⟨g1, g2, g3, g4, g5⟩ := va_Fw.moved hx hW.alike (va_Fw.of (hG.1 _ h5.1) (hG.1 _ h5.2.1) (hG.1 _ h5.2.2.1) (hG.1 _ h5.2.2.2.1) (hG.1 _ h5.2.2.2.2))
  rcases vx_callIF X hC.1 (gO hC) (wd hG hW hw args) (va_Nw.use rfl g1) (va_Nw.use rfl g2) (wd hG hW hse args) (wd hG hW hi args) (va_Nw.use rfl g3) (va_Nw.use rfl g4) (va_Nw.use rfl g5) (mOk_wd0 hG hW hM hh args) hx hBk (b := b) (cellB := cell) (kB := kB) (by rw [hT]; exact c1) c3 hcl (by rw [c5]; exact hkB) (g := F0 m pc ls (As.reverse ++ .ref b :: rest)) rfl (hls.1.trans hC.2.2.2.2.1.symm) (argsL := As) (rest := rest) (fun sig hs => by have := hpx; rw [hs] at this; exact (Option.some.inj this).symm) rfl (lv_room hcat) (by rw [hC.2.1]; exact hd) (fun vm₁ hW₁ => ⟨by show kc + c0 ≤ R.cells; omega, by show n + c0 ≤ R.slots; omega, rfl, by show Rep G h T.heap; rw [hT]; exact hR, State.WarmedH.trans hW hW₁⟩) with ⟨v, vm₁, B, hW₁, X', ⟨h', Lc, hR', hQ, e1, e2, e3, e4⟩, step⟩ | ⟨q, vm₁, B, hW₁, X', ⟨h', Lc, ci', fs', hR', hq, hQ, e1, e2, e3, e4⟩, step⟩
  · have e1 : B.locs = locs ++ Lc := e1
    have e3 : B.cells = kc + c0 := e3
    have e4 : B.slots = n + c0 := e4
    obtain ⟨t, a1, a2⟩ := kr v h' hQ hG p e R s m args below meth cd Z hC hF B.U.heap B.locs B.cells B.slots ls hR' (fun q hq => by
      rw [e1] at hq
      rcases List.mem_append.mp hq with h | h
      · exact hl q h
      · exact e2 q h) (by omega) (by omega) hls B.U rfl X'
    exact ⟨t, step t a1, a2⟩
  · have e1 : B.locs = locs ++ Lc := e1
    have e3 : B.cells = kc + c0 := e3
    have e4 : B.slots = n + c0 := e4
    obtain ⟨t, a1, a2⟩ := kx q h' ci' fs' hQ hq hG p e R s m args below meth cd Z hC hF B.U.heap B.locs B.cells B.slots ls rest hR' (fun q hq => by
      rw [e1] at hq
      rcases List.mem_append.mp hq with h | h
      · exact hl q h
      · exact e2 q h) (by omega) (by omega) hls B.U rfl X'
    exact ⟨t, step.trans a1, a2⟩
/-- System.arraycopy of ints (k = 0) or bytes (k = 1) -/
theorem r_copy {ix k : Nat} {a0 a n0 n1 : Nat} {f g : Nat → Int32} {sp dp n : Int32} (sp' dp' n' : Nat) (hd : decode (mB M) pc = .ok (.invokestatic ix, 3)) (hk : k = 0 ∨ k = 1) (hw : lk (.methodLink (mN M).cls ix arraycopyName)) (hna : lk (.native arraycopyName)) (hs : lk (.static arraycopyName)) (hini : lk (.initialized "java/lang/System")) (ha0 : Has G h a0 (bI k n0 f)) (ha : h a = some (bI k n1 g)) (h1 : sp.toInt = (sp' : Int)) (h2 : dp.toInt = (dp' : Int)) (h3 : n.toInt = (n' : Int)) (h4 : sp' + n' ≤ n0) (h5 : dp' + n' ≤ n1) (hfit : k = 1 → ∀ i, i < n' → fits .byte (.int (f (sp' + i))) = true) (hdd : 1 ≤ d) (hcat : (st.map fun v => v.category).sum ≤ 8) (kk : V G d M (pc + 3) L st (hu h a (bI k n1 (va_cpy f g sp' dp' n'))) c Q) : V G d M pc L (.int n :: .int dp :: .ref a :: .int sp :: .ref a0 :: st) h c Q := by
  intro hG p e R s m args below meth cd Z hC hF H locs kc nn ls hR hl hkc hn hls T hT X
  have hW := gW hC
  have hfr := hC.2.2.2.2.2.2.2.2.2
  have hk5 : k < 5 := by omega
  obtain ⟨cs, c1, c2, c3, c4, c5, c6⟩ := has_int hG hW hR hk5 ha0
  obtain ⟨hge, hok, hat⟩ := hR.2 a _ ha
  have hat : H[a]? = some (arrV (gA G k) n1 (fun j => .int (g j))) := hat
  obtain ⟨-, k0, hk0, cm0, hkk0⟩ := c4
  obtain ⟨-, k1, hk1, cm1, hkk1⟩ := gArr hG hW hk5 n1 (fun j => .int (g j))
  have z1 : sp.toNatClampNeg = sp' := by show sp.toInt.toNat = sp'; omega
  have z2 : dp.toNatClampNeg = dp' := by show dp.toInt.toNat = dp'; omega
  have z3 : n.toNatClampNeg = n' := by show n.toInt.toNat = n'; omega
  have neg : ∀ (z : Int32) (q : Nat), z.toInt = (q : Int) → ¬ z < 0 := fun z q hq h => by
    have h9 := Int32.lt_iff_toInt_lt.mp h
    have h0 : (0 : Int32).toInt = 0 := rfl
    omega
  have hrk : refKind (aT k) = false := by rcases hk with rfl | rfl <;> rfl
  have elem : ∀ i : Nat, i < n' → cs.slots.getD (sp' + i) .null = .int (f (sp' + i)) := fun i hi => by
    rw [Array.getD_eq_getD_getElem?, c6 _ (by omega)]
    rfl
  obtain ⟨vm', X', step⟩ := X.arraycopy hC.1 (gO hC) (wd hG hW hw args) (wd hG hW hna args) (wd hG hW hs args) (wd hG hW hini args) (src := a0) (dst := a) (cs := cs) (cd := arrV (gA G k) n1 (fun j => .int (g j))) (srcPos := sp) (destPos := dp) (n := n) (by rw [hT]; exact c1) (by rw [hT]; exact hat)
    (fun q h => by rw [h] at c3; cases c3) (fun _ h => by cases h) c2 (fun h => by cases h) hk0 hk1 hkk0 hkk1 (by simp [hrk]) (neg sp sp' h1) (neg dp dp' h2) (neg n n' h3)
    (by rw [h1, h3, c5]; omega)
    (by rw [h2, h3, arrV_size]; omega)
    (fun vm₁ _ i hi => by
      rw [z1]
      rw [z3] at hi
      rw [elem i hi]
      refine ⟨?_, trivial⟩
      rcases hk with rfl | rfl
      · rfl
      · exact hfit rfl i hi)
    (g := F0 m pc ls (.int n :: .int dp :: .ref a :: .int sp :: .ref a0 :: st)) rfl (hls.1.trans hC.2.2.2.2.1.symm) (rest := st) rfl (by rw [hC.2.1]; exact hd) (by omega) (by show 2 * 0 + _ + (nativeFrameWords "java/lang/System" "arraycopy" 5 + 11) ≤ R.locals; have : nativeFrameWords "java/lang/System" "arraycopy" 5 ≤ 200 := Nat.le_of_ble_eq_true rfl; omega)
  have e1 : copied cs (arrV (gA G k) n1 (fun j => .int (g j))) sp dp n = arrV (gA G k) n1 (fun j => .int (va_cpy f g sp' dp' n' j)) := by
    show (arrV (gA G k) n1 (fun j => .int (g j))).storeRun dp.toNatClampNeg (cs.stretch sp.toNatClampNeg n.toNatClampNeg) = _
    rw [z1, z2, z3]
    have e : cs.stretch sp' n' = (List.range n').map (fun i => Value.int (f (sp' + i))) := by
      unfold Cell.stretch
      apply List.map_congr_left
      intro i hi
      exact elem i (List.mem_range.mp hi)
    rw [e, Cell.storeRun, va_pairs]
    congr 1
    funext q
    simp only [va_cpy, List.length_map, List.length_range, Nat.add_zero]
    by_cases hq : dp' ≤ q ∧ q < dp' + n'
    · rw [if_pos hq, if_pos hq, List.getD_eq_getElem?_getD, List.getElem?_map, List.getElem?_range (by omega)]
      rfl
    · rw [if_neg hq, if_neg hq]
  rw [e1] at X' step
  have hl9 : a < H.size := (Array.getElem?_eq_some_iff.mp hat).1
  have hheap : ((T.setVm vm').setCell a (arrV (gA G k) n1 (fun j => .int (va_cpy f g sp' dp' n' j)))).heap = H.setIfInBounds a (arrV (gA G k) n1 (fun j => .int (va_cpy f g sp' dp' n' j))) := by rw [← hT]; rfl
  have oq : ∀ q : Nat, q ≠ a → (H.setIfInBounds a (arrV (gA G k) n1 (fun j => .int (va_cpy f g sp' dp' n' j))))[q]? = H[q]? := fun q hq => by simp [Array.getElem?_setIfInBounds, Ne.symm hq]
  have hok' : okB (bI k n1 (va_cpy f g sp' dp' n')) := by
    rcases hk with rfl | rfl
    · exact Or.inl rfl
    · refine Or.inr ⟨rfl, fun j => ?_⟩
      have hg : sb_Fit g := by
        rcases hok with h | h
        · exact absurd h Nat.one_ne_zero
        · exact h.2
      show fits .byte (.int (if dp' ≤ j ∧ j < dp' + n' then f (sp' + (j - dp')) else g j)) = true
      by_cases hq : dp' ≤ j ∧ j < dp' + n'
      · rw [if_pos hq]
        exact hfit rfl (j - dp') (by omega)
      · rw [if_neg hq]
        exact hg j
  have hR' : Rep G (hu h a (bI k n1 (va_cpy f g sp' dp' n'))) (H.setIfInBounds a (arrV (gA G k) n1 (fun j => .int (va_cpy f g sp' dp' n' j)))) := hR.put ha (show (H.setIfInBounds a _)[a]? = some (arrV (gA G k) n1 (fun j => .int (va_cpy f g sp' dp' n' j))) by simp [Array.getElem?_setIfInBounds, hl9]) hok' (by simp) oq
  obtain ⟨t, a1, b1⟩ := kk hG p e R s m args below meth cd Z hC hF _ _ kc nn ls hR' (fun q hq => by
      rcases List.mem_append.mp hq with h | h
      · exact hl q h
      · obtain ⟨z, -, hz⟩ := List.mem_map.mp h
        rw [← hz]
        exact hge) hkc hn hls _ hheap X'
  exact ⟨t, step t a1, b1⟩
end VI
