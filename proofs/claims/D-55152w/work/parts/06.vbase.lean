set_option maxRecDepth 100000
/-! the classes whose objects the run makes -/
abbrev kCl : List vw_C := [(RX0, TX0, 7), (RX1, TX1, 14), (RX2, TX2, 5), (RX3, TX3, 16), (RX4, TX4, 7), (RX5, TX5, 7), (RX6, TX6, 8), (RX10, TX10, 7), (RX8, TX8, 3), (RX9, TX9, 4), (RJ2, TJ2, 3), (RJ4, TJ4, 4), (RJ5, TJ5, 3), (RJ9, TJ9, 3), (RJ11, TJ11, 4), (RJ12, TJ12, 4), (RJ16, TJ16, 4), (RJ24, TJ24, 5), (RJ25, TJ25, 3)]
def kty : Nat → Nat → FieldType := fun c => match c with
  | 0 => tyX0
  | 1 => tyX1
  | 2 => tyX2
  | 3 => tyX3
  | 4 => tyX4
  | 5 => tyX5
  | 6 => tyX6
  | 7 => tyX10
  | 8 => tyX8
  | 9 => tyX9
  | 10 => tyJ2
  | 11 => tyJ4
  | 12 => tyJ5
  | 13 => tyJ9
  | 14 => tyJ11
  | 15 => tyJ12
  | 16 => tyJ16
  | 17 => tyJ24
  | 18 => tyJ25
  | _ => fun _ => .int
theorem kIn : ∀ (ci : Nat) (r : vw_C), kCl[ci]? = some r → ∀ w ∈ u_ws r.1 r.2.1 r.2.2, w ∈ lw_all := by
  intro ci r hr
  match ci, hr with
  | 0, hr => cases hr; exact in_X0
  | 1, hr => cases hr; exact in_X1
  | 2, hr => cases hr; exact in_X2
  | 3, hr => cases hr; exact in_X3
  | 4, hr => cases hr; exact in_X4
  | 5, hr => cases hr; exact in_X5
  | 6, hr => cases hr; exact in_X6
  | 7, hr => cases hr; exact in_X10
  | 8, hr => cases hr; exact in_X8
  | 9, hr => cases hr; exact in_X9
  | 10, hr => cases hr; exact in_J2
  | 11, hr => cases hr; exact in_J4
  | 12, hr => cases hr; exact in_J5
  | 13, hr => cases hr; exact in_J9
  | 14, hr => cases hr; exact in_J11
  | 15, hr => cases hr; exact in_J12
  | 16, hr => cases hr; exact in_J16
  | 17, hr => cases hr; exact in_J24
  | 18, hr => cases hr; exact in_J25
  | k + 19, hr => simp [kCl] at hr
theorem kTy : ∀ (ci : Nat) (r : vw_C), kCl[ci]? = some r → ∀ k, k < r.2.2 → parseFieldDescriptor (r.2.1 k).2.2.1 = some (kty ci k) := by
  intro ci r hr
  match ci, hr with
  | 0, hr => cases hr; exact tyX0_ok
  | 1, hr => cases hr; exact tyX1_ok
  | 2, hr => cases hr; exact tyX2_ok
  | 3, hr => cases hr; exact tyX3_ok
  | 4, hr => cases hr; exact tyX4_ok
  | 5, hr => cases hr; exact tyX5_ok
  | 6, hr => cases hr; exact tyX6_ok
  | 7, hr => cases hr; exact tyX10_ok
  | 8, hr => cases hr; exact tyX8_ok
  | 9, hr => cases hr; exact tyX9_ok
  | 10, hr => cases hr; exact tyJ2_ok
  | 11, hr => cases hr; exact tyJ4_ok
  | 12, hr => cases hr; exact tyJ5_ok
  | 13, hr => cases hr; exact tyJ9_ok
  | 14, hr => cases hr; exact tyJ11_ok
  | 15, hr => cases hr; exact tyJ12_ok
  | 16, hr => cases hr; exact tyJ16_ok
  | 17, hr => cases hr; exact tyJ24_ok
  | 18, hr => cases hr; exact tyJ25_ok
  | k + 19, hr => simp [kCl] at hr
theorem kNm : ∀ (ci : Nat) (r : vw_C), kCl[ci]? = some r → ∀ a, a < r.2.2 → ∀ b, b < r.2.2 → a ≠ b → (r.2.1 a).2.1 ≠ (r.2.1 b).2.1 := by
  intro ci r hr
  match ci, hr with
  | 0, hr => cases hr; exact nmX0
  | 1, hr => cases hr; exact nmX1
  | 2, hr => cases hr; exact nmX2
  | 3, hr => cases hr; exact nmX3
  | 4, hr => cases hr; exact nmX4
  | 5, hr => cases hr; exact nmX5
  | 6, hr => cases hr; exact nmX6
  | 7, hr => cases hr; exact nmX10
  | 8, hr => cases hr; exact nmX8
  | 9, hr => cases hr; exact nmX9
  | 10, hr => cases hr; exact nmJ2
  | 11, hr => cases hr; exact nmJ4
  | 12, hr => cases hr; exact nmJ5
  | 13, hr => cases hr; exact nmJ9
  | 14, hr => cases hr; exact nmJ11
  | 15, hr => cases hr; exact nmJ12
  | 16, hr => cases hr; exact nmJ16
  | 17, hr => cases hr; exact nmJ24
  | 18, hr => cases hr; exact nmJ25
  | k + 19, hr => simp [kCl] at hr
/-! ===== THE LAYER V: one pure heap, credits, depth; every instruction a rule without the machine's own hypotheses ===== -/
abbrev Bd : Type := (Nat × List Value) ⊕ ((Nat × Nat × (Nat → Int32)) ⊕ ((Nat × (Nat → Int64)) ⊕ (Nat × Nat × (Nat → Option Nat))))
abbrev bO (ci : Nat) (fs : List Value) : Bd := Sum.inl (ci, fs)
abbrev bI (t n : Nat) (f : Nat → Int32) : Bd := Sum.inr (Sum.inl (t, n, f))
abbrev bL (n : Nat) (f : Nat → Int64) : Bd := Sum.inr (Sum.inr (Sum.inl (n, f)))
abbrev bR (t n : Nat) (f : Nat → Option Nat) : Bd := Sum.inr (Sum.inr (Sum.inr (t, n, f)))
abbrev HP : Type := Nat → Option Bd
abbrev GG : Type := State × Array Value × (Nat → ClassId) × (Nat → Nat → Nat) × (Nat → ClassId) × Launch
abbrev gS (G : GG) : State := G.1
abbrev gB (G : GG) : Array Value := G.2.1
abbrev gC (G : GG) : Nat → ClassId := G.2.2.1
abbrev gI (G : GG) : Nat → Nat → Nat := G.2.2.2.1
abbrev gA (G : GG) : Nat → ClassId := G.2.2.2.2.1
abbrev gL (G : GG) : Launch := G.2.2.2.2.2
abbrev gz (G : GG) : Nat := (gS G).heap.size
/-- a method: its name, code, locals, answer, handlers -/
abbrev Mt : Type := MethodName × ByteArray × Nat × Option FieldType × List (Nat × Nat × Nat × Nat)
abbrev mN (M : Mt) : MethodName := M.1
abbrev mB (M : Mt) : ByteArray := M.2.1
abbrev mL (M : Mt) : Nat := M.2.2.1
abbrev mR (M : Mt) : Option FieldType := M.2.2.2.1
abbrev mH (M : Mt) : List (Nat × Nat × Nat × Nat) := M.2.2.2.2
abbrev mW (M : Mt) : Cond := Cond.codeWith (mN M) (mB M) (mL M) (mR M) (mH M)
/-- an end: a value returned (or none), or the address of what was thrown -/
abbrev Oc : Type := Option Value ⊕ Nat
def aT : Nat → FieldType := fun t => match t with
  | 0 => .int
  | 1 => .byte
  | 2 => .long
  | 3 => .object "java/lang/Object"
  | _ => .object "java/lang/String"
def toE (G : GG) (b : Bd) : va_E := match b with
  | .inl o => .inr o
  | .inr (.inl a) => .inl (gA G a.1, a.2.1, .inl a.2.2)
  | .inr (.inr (.inl a)) => .inl (gA G 2, a.1, .inr (.inl a.2))
  | .inr (.inr (.inr a)) => .inl (gA G a.1, a.2.1, .inr (.inr (.inr (.inr a.2.2))))
/-- what is said of a cell that was there at the start and is only read -/
def crepK (G : GG) (b : Bd) (cell : Cell) : Prop := match b with
  | .inl o => ∃ r : vw_C, kCl[o.1]? = some r ∧ cell.cls = gC G o.1 ∧ ∀ (k : Nat) (v : Value), o.2[k]? = some v → cell.slots[gI G o.1 k]? = some v
  | .inr (.inl a) => (gS G).isArrayOf cell (aT a.1) ∧ cell.slots.size = a.2.1 ∧ ∀ j : Nat, j < a.2.1 → cell.slots[j]? = some (.int (a.2.2 j))
  | .inr (.inr (.inl _)) => False
  | .inr (.inr (.inr a)) => (gS G).isArrayOf cell (aT a.1) ∧ cell.slots.size = a.2.1 ∧ ∀ j : Nat, j < a.2.1 → cell.slots[j]? = some (va_rf (a.2.2 j))
/-- a constant: a cell of the start -/
def KK (G : GG) (a : Nat) (b : Bd) : Prop := ∃ cell : Cell, (gS G).heap[a]? = some cell ∧ cell.vm ≠ .unknown ∧ cell.vm.isStatics = false ∧ crepK G b cell
def Has (G : GG) (h : HP) (a : Nat) (b : Bd) : Prop := h a = some b ∨ KK G a b
def okB (b : Bd) : Prop := match b with
  | .inr (.inl a) => a.1 = 0 ∨ (a.1 = 1 ∧ sb_Fit a.2.2)
  | _ => True
def Rep (G : GG) (h : HP) (H : Heap) : Prop := ((gz G ≤ H.size) ∧ ∀ q : Nat, q < gz G → H[q]? = (gS G).heap[q]?) ∧ ∀ (a : Nat) (b : Bd), h a = some b → gz G ≤ a ∧ okB b ∧ va_at (gC G, gI G) kCl (a, toE G b) H
def hu (h : HP) (a : Nat) (b : Bd) : HP := fun q => if q = a then some b else h q
theorem hu_s {h : HP} {a : Nat} {b : Bd} : hu h a b a = some b := by simp [hu]
theorem hu_n {h : HP} {a q : Nat} {b : Bd} (hq : q ≠ a) : hu h a b q = h q := by simp [hu, hq]
def GOk (G : GG) : Prop := (∀ w ∈ lw_tbl, w.before (gB G) (gS G) = true) ∧ (Jvm.Cond.and given_1 narrow_1).before (gB G) (gS G) = true ∧ (∀ (ci : Nat) (r : vw_C), kCl[ci]? = some r → u_Kn (gS G) r.1 r.2.1 r.2.2 (gC G ci) (gI G ci)) ∧ (∀ t : Nat, t < 5 → ArrOfT (gS G) (gA G t) (aT t) ∧ va_RA (gS G) (gA G t) (aT t))
/-! ### words -/
def okw2 (w : Cond) : Bool := match w with
  | .fieldLinkNest .. => true
  | .methodLinkNest .. => true
  | .castable .. => true
  | .declares _ => true
  | .publicMethod _ => true
  | .unhidden .. => true
  | .arrayOver (.object _) => true
  | _ => false
def okw (w : Cond) : Bool := goodWord w || okw2 w
theorem wd_warm {w : Cond} (hk : okw w = true) {a a' : Array Value} {s U : State} (hW : s.WarmedH U.vm) (h : w.before a s = true) : w.before a' U = true := by
  by_cases hg : goodWord w = true
  · exact word_at hW (good_of_word hg) h
  · have h2 : okw2 w = true := by
      simp only [okw, Bool.or_eq_true] at hk
      exact hk.resolve_left hg
    match w, h2, h with
    | .fieldLinkNest .., _, h => exact va_Nw.use rfl (va_Nw.warmF hW (va_Nw.of rfl h))
    | .methodLinkNest .., _, h => exact va_Nw.use rfl (va_Nw.warmM hW (va_Nw.of rfl h))
    | .castable .., _, h => exact va_Nw.use rfl (va_Nw.warmC hW (va_Nw.of rfl h))
    | .declares _, _, h => exact va_Nw.use rfl (va_Nw.warmD hW (va_Nw.of rfl h))
    | .publicMethod _, _, h => exact va_tabs rfl (rfl : (s.setVm U.vm).vm = U.vm) (by rw [Cond.publicMethod_setVm hW.alike]; exact h)
    | .unhidden .., _, h => exact va_tabs rfl (rfl : (s.setVm U.vm).vm = U.vm) (by rw [Cond.unhidden_setVm hW.alike]; exact h)
    | .arrayOver (.object _), _, h => exact va_AO.use (va_AO.moved hW.alike (va_AO.of h))
def lk (w : Cond) : Prop := w ∈ lw_tbl ∧ okw w = true
theorem lkA {w : Cond} (h : w ∈ lw_all) : lk w := ⟨lw_all_tbl h, by simp [okw, (List.mem_filter.mp h).2]⟩
theorem lkT {w : Cond} (h : w ∈ lw_tbl) (g : okw w = true) : lk w := ⟨h, g⟩
theorem wd {G : GG} (hG : GOk G) {U : State} (hW : (gS G).WarmedH U.vm) {w : Cond} (hw : lk w) (a : Array Value) : w.before a U = true := wd_warm hw.2 hW (hG.1 w hw.1)
/-- the code word of a method -/
def mOk (M : Mt) : Prop := lk (mW M) ∨ (mH M = [] ∧ lk (Cond.code (mN M) (mB M) (mL M) (mR M)))
theorem mOk_wd {G : GG} (hG : GOk G) {U : State} (hW : (gS G).WarmedH U.vm) {M : Mt} (hM : mOk M) (a : Array Value) : (mW M).before a U = true := by
  rcases hM with h | ⟨h0, h⟩
  · exact wd hG hW h a
  · have h1 := wd hG hW h a
    have e : mW M = Cond.codeWith (mN M) (mB M) (mL M) (mR M) [] := by
      show Cond.codeWith (mN M) (mB M) (mL M) (mR M) (mH M) = _
      rw [h0]
    rw [e]
    simp only [Cond.before, Cond.holds] at h1 ⊢
    rw [Cond.code_iff_codeWith_nil] at h1
    exact h1
theorem mOk_wd0 {G : GG} (hG : GOk G) {U : State} (hW : (gS G).WarmedH U.vm) {M : Mt} (hM : mOk M) (h0 : mH M = []) (a : Array Value) : (Cond.code (mN M) (mB M) (mL M) (mR M)).before a U = true := by
  have h1 := mOk_wd hG hW hM a
  have h1 : (Cond.codeWith (mN M) (mB M) (mL M) (mR M) (mH M)).before a U = true := h1
  rw [h0] at h1
  simp only [Cond.before, Cond.holds] at h1 ⊢
  rw [Cond.code_iff_codeWith_nil]
  exact h1
/-! ### the judgement -/
def rOk (ret : Option FieldType) (i : Instr) (st : List Value) (v : Option Value) : Prop :=
  (i = .return_ ∧ ret = none ∧ st = [] ∧ v = none) ∨
  (∃ (ty : FieldType) (x : Int32), i = .ireturn ∧ ret = some ty ∧ narrow ty (.int x) = .int x ∧ st = [.int x] ∧ v = some (.int x)) ∨
  (∃ (rt : FieldType) (w : Value), i = .areturn ∧ ret = some rt ∧ ((∃ n, rt = .object n) ∨ ∃ t, rt = .array t) ∧ (w = .null ∨ ∃ a, w = .ref a) ∧ st = [w] ∧ v = some w) ∨
  (∃ x : UInt32, i = .freturn ∧ ret = some .float ∧ st = [.float x] ∧ v = some (.float x)) ∨
  (∃ x : UInt64, i = .dreturn ∧ ret = some .double ∧ st = [.double x] ∧ v = some (.double x))
def Cx (G : GG) (M : Mt) (d : Nat) (p : Program) (R : Room) (s : State) (m : MethodId) (meth : Method) (cd : Code) : Prop :=
  p.tables.exec = Jvm.exec ∧ cd.code = mB M ∧ meth.sig.returnType = mR M ∧ meth.locks = false ∧ cd.maxLocals = mL M ∧ cd.exceptionTable.toList = tableOf (mH M) ∧ s.vm.findClass (mN M).cls = some m.cls ∧ meth.name = (mN M).name ∧ (gS G).WarmedH s.vm ∧ d ≤ R.frames ∧ 256 * d ≤ R.locals
def Fin_ (G : GG) (M : Mt) (p : Program) (e : Env) (R : Room) (s : State) (m : MethodId) (args : Array Value) (below : List Frame) (meth : Method) (cd : Code) (Q : Oc → HP → Prop) (Z : State → Prop) : Prop :=
  (∀ (v : Option Value) (h : HP) (H : Heap) (locs : List Loc) (k n pc : Nat) (ls : Array Slot) (st : List Value) (i : Instr), Q (.inl v) h → Rep G h H → (∀ q ∈ locs, gz G ≤ q.base) → k ≤ R.cells → n ≤ R.slots → rOk (mR M) i st v → decode (mB M) pc = .ok (i, 1) → W p (gL G) e R s m args below meth cd H locs k n Z (F0 m pc ls st)) ∧
  (∀ (q ci : Nat) (fs : List Value) (h : HP) (H : Heap) (locs : List Loc) (k n pc : Nat) (ls : Array Slot) (st : List Value), Q (.inr q) h → Rep G h H → h q = some (bO ci fs) → (∀ q ∈ locs, gz G ≤ q.base) → k ≤ R.cells → n ≤ R.slots → (∀ x ∈ tableOf (mH M), covers x pc = false) → vx_W p (gL G) e R s m args below meth cd H locs k n Z (F0 m pc ls st) q)
def V (G : GG) (d : Nat) (M : Mt) (pc : Nat) (L : List (Nat × Value)) (st : List Value) (h : HP) (c : Nat) (Q : Oc → HP → Prop) : Prop :=
  GOk G → ∀ (p : Program) (e : Env) (R : Room) (s : State) (m : MethodId) (args : Array Value) (below : List Frame) (meth : Method) (cd : Code) (Z : State → Prop), Cx G M d p R s m meth cd → Fin_ G M p e R s m args below meth cd Q Z →
    ∀ (H : Heap) (locs : List Loc) (k n : Nat) (ls : Array Slot), Rep G h H → (∀ q ∈ locs, gz G ≤ q.base) → k + c ≤ R.cells → n + c ≤ R.slots → lv_has ls (mL M) L → W p (gL G) e R s m args below meth cd H locs k n Z (F0 m pc ls st)
/-- an exception (the object at q) on its way, at pc -/
def VX (G : GG) (d : Nat) (M : Mt) (pc : Nat) (L : List (Nat × Value)) (h : HP) (c : Nat) (q : Nat) (Q : Oc → HP → Prop) : Prop :=
  GOk G → ∀ (p : Program) (e : Env) (R : Room) (s : State) (m : MethodId) (args : Array Value) (below : List Frame) (meth : Method) (cd : Code) (Z : State → Prop), Cx G M d p R s m meth cd → Fin_ G M p e R s m args below meth cd Q Z →
    ∀ (H : Heap) (locs : List Loc) (k n : Nat) (ls : Array Slot) (rest : List Value), Rep G h H → (∀ q ∈ locs, gz G ≤ q.base) → k + c ≤ R.cells → n + c ≤ R.slots → lv_has ls (mL M) L → vx_W p (gL G) e R s m args below meth cd H locs k n Z (F0 m pc ls rest) q
section VB
variable {G : GG} {d : Nat} {M : Mt} {pc : Nat} {L : List (Nat × Value)} {st : List Value} {h : HP} {c : Nat} {Q : Oc → HP → Prop}
theorem V.mono {Q' : Oc → HP → Prop} (hV : V G d M pc L st h c Q') (hQ : ∀ o h', Q' o h' → Q o h') : V G d M pc L st h c Q := by
  intro hG p e R s m args below meth cd Z hC hF
  exact hV hG p e R s m args below meth cd Z hC ⟨fun v h H locs k n pc ls st i q => hF.1 v h H locs k n pc ls st i (hQ _ _ q), fun q ci fs h H locs k n pc ls st hq => hF.2 q ci fs h H locs k n pc ls st (hQ _ _ hq)⟩
theorem V.less {c' : Nat} (hV : V G d M pc L st h c' Q) (hc : c' ≤ c) : V G d M pc L st h c Q := by
  intro hG p e R s m args below meth cd Z hC hF H locs k n ls hR hl hk hn
  exact hV hG p e R s m args below meth cd Z hC hF H locs k n ls hR hl (by omega) (by omega)
theorem V.shal {d' : Nat} (hV : V G d' M pc L st h c Q) (hd : d' ≤ d) : V G d M pc L st h c Q := by
  intro hG p e R s m args below meth cd Z hC hF
  obtain ⟨h1, h2, h3, h4, h5, h6, h7, h8, h9, h10, h11⟩ := hC
  exact hV hG p e R s m args below meth cd Z ⟨h1, h2, h3, h4, h5, h6, h7, h8, h9, by omega, by omega⟩ hF
theorem V.loc {L' : List (Nat × Value)} (hL : ∀ q ∈ L', q ∈ L) (hV : V G d M pc L' st h c Q) : V G d M pc L st h c Q := by
  intro hG p e R s m args below meth cd Z hC hF H locs k n ls hR hl hk hn hls
  exact hV hG p e R s m args below meth cd Z hC hF H locs k n ls hR hl hk hn ⟨hls.1, hls.2.1, fun q hq => hls.2.2 q (hL q hq)⟩
/-- an instruction that moves the operand stack alone -/
theorem V.lift {pc2 : Nat} {st2 : List Value} (f : ∀ (p : Program) (e : Env) (R : Room) (s : State) (m : MethodId) (args : Array Value) (below : List Frame) (meth : Method) (cd : Code) (H : Heap) (locs : List Loc) (k n : Nat) (Z : State → Prop) (ls : Array Slot), GOk G → Cx G M d p R s m meth cd → lv_has ls (mL M) L → W p (gL G) e R s m args below meth cd H locs k n Z (F0 m pc2 ls st2) → W p (gL G) e R s m args below meth cd H locs k n Z (F0 m pc ls st)) (kk : V G d M pc2 L st2 h c Q) : V G d M pc L st h c Q := by
  intro hG p e R s m args below meth cd Z hC hF H locs k n ls hR hl hk hn hls
  exact f p e R s m args below meth cd H locs k n Z ls hG hC hls (kk hG p e R s m args below meth cd Z hC hF H locs k n ls hR hl hk hn hls)
theorem V.pick {pt : Nat} {st2 : List Value} {P : Prop} {pf : Nat} (f : ∀ (p : Program) (e : Env) (R : Room) (s : State) (m : MethodId) (args : Array Value) (below : List Frame) (meth : Method) (cd : Code) (H : Heap) (locs : List Loc) (k n : Nat) (Z : State → Prop) (ls : Array Slot), GOk G → Cx G M d p R s m meth cd → lv_has ls (mL M) L → (P → W p (gL G) e R s m args below meth cd H locs k n Z (F0 m pt ls st2)) → (¬ P → W p (gL G) e R s m args below meth cd H locs k n Z (F0 m pf ls st2)) → W p (gL G) e R s m args below meth cd H locs k n Z (F0 m pc ls st)) (kt : P → V G d M pt L st2 h c Q) (kf : ¬ P → V G d M pf L st2 h c Q) : V G d M pc L st h c Q := by
  intro hG p e R s m args below meth cd Z hC hF H locs k n ls hR hl hk hn hls
  exact f p e R s m args below meth cd H locs k n Z ls hG hC hls (fun x => kt x hG p e R s m args below meth cd Z hC hF H locs k n ls hR hl hk hn hls) (fun x => kf x hG p e R s m args below meth cd Z hC hF H locs k n ls hR hl hk hn hls)
/-! ### locals -/
def lvg : List (Nat × Value) → Nat → Option Value
  | [], _ => none
  | q :: l, k => if q.1 = k then some q.2 else lvg l k
theorem lvg_mem : ∀ {l : List (Nat × Value)} {k : Nat} {v : Value}, lvg l k = some v → (k, v) ∈ l
  | [], _, _, h => by simp [lvg] at h
  | q :: l, k, v, h => by
    unfold lvg at h
    by_cases hq : q.1 = k
    · rw [if_pos hq] at h
      cases h
      subst hq
      exact List.mem_cons_self
    · rw [if_neg hq] at h
      exact List.mem_cons_of_mem _ (lvg_mem h)
theorem lv_of {ls : Array Slot} {n k : Nat} {l : List (Nat × Value)} {v : Value} (h : lv_has ls n l) (hk : lvg l k = some v) : ls[k]? = some (.val v) := h.2.2 _ (lvg_mem hk)
def lvs (l : List (Nat × Value)) (i : Nat) (v : Value) : List (Nat × Value) := (i, v) :: l.filter (fun q => !(q.1 == i) && !(q.1 + 1 == i && q.2.category == 2))
def lvs2 (l : List (Nat × Value)) (i : Nat) (v : Value) : List (Nat × Value) := (i, v) :: l.filter (fun q => !(q.1 == i) && (!(q.1 == i + 1) && !(q.1 + 1 == i && q.2.category == 2)))
theorem V.sto {pc2 : Nat} {st2 : List Value} {L2 : List (Nat × Value)} (f : ∀ (p : Program) (e : Env) (R : Room) (s : State) (m : MethodId) (args : Array Value) (below : List Frame) (meth : Method) (cd : Code) (H : Heap) (locs : List Loc) (k n : Nat) (Z : State → Prop) (ls : Array Slot), GOk G → Cx G M d p R s m meth cd → lv_has ls (mL M) L → (∀ ls' : Array Slot, lv_has ls' (mL M) L2 → W p (gL G) e R s m args below meth cd H locs k n Z (F0 m pc2 ls' st2)) → W p (gL G) e R s m args below meth cd H locs k n Z (F0 m pc ls st)) (kk : V G d M pc2 L2 st2 h c Q) : V G d M pc L st h c Q := by
  intro hG p e R s m args below meth cd Z hC hF H locs k n ls hR hl hk hn hls
  exact f p e R s m args below meth cd H locs k n Z ls hG hC hls (fun ls' h' => kk hG p e R s m args below meth cd Z hC hF H locs k n ls' hR hl hk hn h')
theorem r_iconst {n : Int} {v : Int32} (hd : decode (mB M) pc = .ok (.iconst n, 1)) (hv : Int32.ofInt n = v) (kk : V G d M (pc + 1) L (.int v :: st) h c Q) : V G d M pc L (st) h c Q :=
  V.lift (fun p e R s m args below meth cd H locs k n Z ls hG hC hl w => lv_iconst hC.1 hC.2.1 hd hv w) kk
theorem r_bipush {n : Int} {v : Int32} (hd : decode (mB M) pc = .ok (.bipush n, 2)) (hv : (Int8.ofInt n).toInt32 = v) (kk : V G d M (pc + 2) L (.int v :: st) h c Q) : V G d M pc L (st) h c Q :=
  V.lift (fun p e R s m args below meth cd H locs k n Z ls hG hC hl w => lv_bipush hC.1 hC.2.1 hd hv w) kk
theorem r_sipush {n : Int} {v : Int32} (hd : decode (mB M) pc = .ok (.sipush n, 3)) (hv : (Int16.ofInt n).toInt32 = v) (kk : V G d M (pc + 3) L (.int v :: st) h c Q) : V G d M pc L (st) h c Q :=
  V.lift (fun p e R s m args below meth cd H locs k n Z ls hG hC hl w => lv_sipush hC.1 hC.2.1 hd hv w) kk
theorem r_lconst {n : Fin 2} {v : Int64} (hd : decode (mB M) pc = .ok (.lconst n, 1)) (hv : Int64.ofNat (n : Nat) = v) (kk : V G d M (pc + 1) L (.long v :: st) h c Q) : V G d M pc L (st) h c Q :=
  V.lift (fun p e R s m args below meth cd H locs k n Z ls hG hC hl w => lv_lconst hC.1 hC.2.1 hd hv w) kk
theorem r_fconst0 (hd : decode (mB M) pc = .ok (.fconst 0, 1)) (kk : V G d M (pc + 1) L (.float FP.fconst0 :: st) h c Q) : V G d M pc L (st) h c Q :=
  V.lift (fun p e R s m args below meth cd H locs k n Z ls hG hC hl w => lv_fconst0 hC.1 hC.2.1 hd w) kk
theorem r_null (hd : decode (mB M) pc = .ok (.aconst_null, 1)) (kk : V G d M (pc + 1) L (.null :: st) h c Q) : V G d M pc L (st) h c Q :=
  V.lift (fun p e R s m args below meth cd H locs k n Z ls hG hC hl w => lv_null hC.1 hC.2.1 hd w) kk
theorem r_iload_n {j : Fin 4} {x : Int32} (hd : decode (mB M) pc = .ok (.iload_n j, 1)) (hv : lvg L j = some (.int x)) (kk : V G d M (pc + 1) L (.int x :: st) h c Q) : V G d M pc L (st) h c Q :=
  V.lift (fun p e R s m args below meth cd H locs k n Z ls hG hC hl w => lv_iload_n hC.1 hC.2.1 hd rfl (lv_of hl hv) w) kk
theorem r_iload {j : Nat} {x : Int32} (hd : decode (mB M) pc = .ok (.iload j, 2)) (hv : lvg L j = some (.int x)) (kk : V G d M (pc + 2) L (.int x :: st) h c Q) : V G d M pc L (st) h c Q :=
  V.lift (fun p e R s m args below meth cd H locs k n Z ls hG hC hl w => lv_iload hC.1 hC.2.1 hd (lv_of hl hv) w) kk
theorem r_lload_n {j : Fin 4} {x : Int64} (hd : decode (mB M) pc = .ok (.lload_n j, 1)) (hv : lvg L j = some (.long x)) (kk : V G d M (pc + 1) L (.long x :: st) h c Q) : V G d M pc L (st) h c Q :=
  V.lift (fun p e R s m args below meth cd H locs k n Z ls hG hC hl w => lv_lload_n hC.1 hC.2.1 hd rfl (lv_of hl hv) w) kk
theorem r_lload {j : Nat} {x : Int64} (hd : decode (mB M) pc = .ok (.lload j, 2)) (hv : lvg L j = some (.long x)) (kk : V G d M (pc + 2) L (.long x :: st) h c Q) : V G d M pc L (st) h c Q :=
  V.lift (fun p e R s m args below meth cd H locs k n Z ls hG hC hl w => lv_lload hC.1 hC.2.1 hd (lv_of hl hv) w) kk
theorem r_dload {j : Nat} {x : UInt64} (hd : decode (mB M) pc = .ok (.dload j, 2)) (hv : lvg L j = some (.double x)) (kk : V G d M (pc + 2) L (.double x :: st) h c Q) : V G d M pc L (st) h c Q :=
  V.lift (fun p e R s m args below meth cd H locs k n Z ls hG hC hl w => lv_dload hC.1 hC.2.1 hd (lv_of hl hv) w) kk
theorem r_dload_n {j : Fin 4} {x : UInt64} (hd : decode (mB M) pc = .ok (.dload_n j, 1)) (hv : lvg L j = some (.double x)) (kk : V G d M (pc + 1) L (.double x :: st) h c Q) : V G d M pc L (st) h c Q :=
  V.lift (fun p e R s m args below meth cd H locs k n Z ls hG hC hl w => lv_dload_n hC.1 hC.2.1 hd rfl (lv_of hl hv) w) kk
theorem r_aload_nq {j : Fin 4} {x : Option Nat} (hd : decode (mB M) pc = .ok (.aload_n j, 1)) (hv : lvg L j = some (va_rf x)) (kk : V G d M (pc + 1) L (va_rf x :: st) h c Q) : V G d M pc L st h c Q := by
  cases x with
  | none => exact V.lift (fun p e R s m args below meth cd H locs k n Z ls hG hC hl w => lv_aload_nN hC.1 hC.2.1 hd rfl (lv_of hl hv) w) kk
  | some y => exact V.lift (fun p e R s m args below meth cd H locs k n Z ls hG hC hl w => lv_aload_n hC.1 hC.2.1 hd rfl (lv_of hl hv) w) kk
theorem r_aload_n {j : Fin 4} {x : Nat} (hd : decode (mB M) pc = .ok (.aload_n j, 1)) (hv : lvg L j = some (.ref x)) (kk : V G d M (pc + 1) L (.ref x :: st) h c Q) : V G d M pc L st h c Q :=
  V.lift (fun p e R s m args below meth cd H locs k n Z ls hG hC hl w => lv_aload_n hC.1 hC.2.1 hd rfl (lv_of hl hv) w) kk
theorem r_aload_nN {j : Fin 4} (hd : decode (mB M) pc = .ok (.aload_n j, 1)) (hv : lvg L j = some .null) (kk : V G d M (pc + 1) L (.null :: st) h c Q) : V G d M pc L st h c Q :=
  V.lift (fun p e R s m args below meth cd H locs k n Z ls hG hC hl w => lv_aload_nN hC.1 hC.2.1 hd rfl (lv_of hl hv) w) kk
theorem r_aloadq {j : Nat} {x : Option Nat} (hd : decode (mB M) pc = .ok (.aload j, 2)) (hv : lvg L j = some (va_rf x)) (kk : V G d M (pc + 2) L (va_rf x :: st) h c Q) : V G d M pc L st h c Q := by
  cases x with
  | none => exact V.lift (fun p e R s m args below meth cd H locs k n Z ls hG hC hl w => lv_aloadN hC.1 hC.2.1 hd (lv_of hl hv) w) kk
  | some y => exact V.lift (fun p e R s m args below meth cd H locs k n Z ls hG hC hl w => lv_aload hC.1 hC.2.1 hd (lv_of hl hv) w) kk
theorem r_aload {j : Nat} {x : Nat} (hd : decode (mB M) pc = .ok (.aload j, 2)) (hv : lvg L j = some (.ref x)) (kk : V G d M (pc + 2) L (.ref x :: st) h c Q) : V G d M pc L st h c Q :=
  V.lift (fun p e R s m args below meth cd H locs k n Z ls hG hC hl w => lv_aload hC.1 hC.2.1 hd (lv_of hl hv) w) kk
theorem r_aloadN {j : Nat} (hd : decode (mB M) pc = .ok (.aload j, 2)) (hv : lvg L j = some .null) (kk : V G d M (pc + 2) L (.null :: st) h c Q) : V G d M pc L st h c Q :=
  V.lift (fun p e R s m args below meth cd H locs k n Z ls hG hC hl w => lv_aloadN hC.1 hC.2.1 hd (lv_of hl hv) w) kk
theorem r_istore_n {j : Fin 4} {x : Int32} (hd : decode (mB M) pc = .ok (.istore_n j, 1)) (hn : (j : Nat) < mL M) (kk : V G d M (pc + 1) (lvs L j (.int x)) st h c Q) : V G d M pc L (.int x :: st) h c Q :=
  V.sto (fun p e R s m args below meth cd H locs k n Z ls hG hC hl w => lv_istore_n hC.1 hC.2.1 hd rfl hl hn rfl w) kk
theorem r_istore {j : Nat} {x : Int32} (hd : decode (mB M) pc = .ok (.istore j, 2)) (hn : (j : Nat) < mL M) (kk : V G d M (pc + 2) (lvs L j (.int x)) st h c Q) : V G d M pc L (.int x :: st) h c Q :=
  V.sto (fun p e R s m args below meth cd H locs k n Z ls hG hC hl w => lv_istore hC.1 hC.2.1 hd hl hn rfl w) kk
theorem r_astore_n {j : Fin 4} {x : Nat} (hd : decode (mB M) pc = .ok (.astore_n j, 1)) (hn : (j : Nat) < mL M) (kk : V G d M (pc + 1) (lvs L j (.ref x)) st h c Q) : V G d M pc L (.ref x :: st) h c Q :=
  V.sto (fun p e R s m args below meth cd H locs k n Z ls hG hC hl w => lv_astore_n hC.1 hC.2.1 hd rfl hl hn rfl w) kk
theorem r_astore {j : Nat} {x : Nat} (hd : decode (mB M) pc = .ok (.astore j, 2)) (hn : (j : Nat) < mL M) (kk : V G d M (pc + 2) (lvs L j (.ref x)) st h c Q) : V G d M pc L (.ref x :: st) h c Q :=
  V.sto (fun p e R s m args below meth cd H locs k n Z ls hG hC hl w => lv_astore hC.1 hC.2.1 hd hl hn rfl w) kk
theorem r_astore_nN {j : Fin 4} (hd : decode (mB M) pc = .ok (.astore_n j, 1)) (hn : (j : Nat) < mL M) (kk : V G d M (pc + 1) (lvs L j (.null)) st h c Q) : V G d M pc L (.null :: st) h c Q :=
  V.sto (fun p e R s m args below meth cd H locs k n Z ls hG hC hl w => lv_astore_nN hC.1 hC.2.1 hd rfl hl hn rfl w) kk
theorem r_astoreN {j : Nat} (hd : decode (mB M) pc = .ok (.astore j, 2)) (hn : (j : Nat) < mL M) (kk : V G d M (pc + 2) (lvs L j (.null)) st h c Q) : V G d M pc L (.null :: st) h c Q :=
  V.sto (fun p e R s m args below meth cd H locs k n Z ls hG hC hl w => lv_astoreN hC.1 hC.2.1 hd hl hn rfl w) kk
theorem r_astore_nq {j : Fin 4} {x : Option Nat} (hd : decode (mB M) pc = .ok (.astore_n j, 1)) (hn : (j : Nat) < mL M) (kk : V G d M (pc + 1) (lvs L j (va_rf x)) st h c Q) : V G d M pc L (va_rf x :: st) h c Q := by
  cases x with
  | none => exact V.sto (fun p e R s m args below meth cd H locs k n Z ls hG hC hl w => lv_astore_nN hC.1 hC.2.1 hd rfl hl hn rfl w) kk
  | some y => exact V.sto (fun p e R s m args below meth cd H locs k n Z ls hG hC hl w => lv_astore_n hC.1 hC.2.1 hd rfl hl hn rfl w) kk
theorem r_astoreq {j : Nat} {x : Option Nat} (hd : decode (mB M) pc = .ok (.astore j, 2)) (hn : (j : Nat) < mL M) (kk : V G d M (pc + 2) (lvs L j (va_rf x)) st h c Q) : V G d M pc L (va_rf x :: st) h c Q := by
  cases x with
  | none => exact V.sto (fun p e R s m args below meth cd H locs k n Z ls hG hC hl w => lv_astoreN hC.1 hC.2.1 hd hl hn rfl w) kk
  | some y => exact V.sto (fun p e R s m args below meth cd H locs k n Z ls hG hC hl w => lv_astore hC.1 hC.2.1 hd hl hn rfl w) kk
theorem r_lstore_n {j : Fin 4} {x : Int64} (hd : decode (mB M) pc = .ok (.lstore_n j, 1)) (hn : j + 1 < mL M) (kk : V G d M (pc + 1) (lvs2 L j (.long x)) st h c Q) : V G d M pc L (.long x :: st) h c Q :=
  V.sto (fun p e R s m args below meth cd H locs k n Z ls hG hC hl w => lv_lstore_n hC.1 hC.2.1 hd rfl hl hn rfl w) kk
theorem r_lstore {j : Nat} {x : Int64} (hd : decode (mB M) pc = .ok (.lstore j, 2)) (hn : j + 1 < mL M) (kk : V G d M (pc + 2) (lvs2 L j (.long x)) st h c Q) : V G d M pc L (.long x :: st) h c Q :=
  V.sto (fun p e R s m args below meth cd H locs k n Z ls hG hC hl w => lv_lstore hC.1 hC.2.1 hd hl hn rfl w) kk
theorem r_dstore {j : Nat} {x : UInt64} (hd : decode (mB M) pc = .ok (.dstore j, 2)) (hn : j + 1 < mL M) (kk : V G d M (pc + 2) (lvs2 L j (.double x)) st h c Q) : V G d M pc L (.double x :: st) h c Q :=
  V.sto (fun p e R s m args below meth cd H locs k n Z ls hG hC hl w => lv_dstore hC.1 hC.2.1 hd hl hn rfl w) kk
theorem r_dstore_n {j : Fin 4} {x : UInt64} (hd : decode (mB M) pc = .ok (.dstore_n j, 1)) (hn : j + 1 < mL M) (kk : V G d M (pc + 1) (lvs2 L j (.double x)) st h c Q) : V G d M pc L (.double x :: st) h c Q :=
  V.sto (fun p e R s m args below meth cd H locs k n Z ls hG hC hl w => lv_dstore_n hC.1 hC.2.1 hd rfl hl hn rfl w) kk
theorem r_iinc {j : Nat} {n : Int} {x : Int32} (v : Int32) (hd : decode (mB M) pc = .ok (.iinc j n, 3)) (hv : lvg L j = some (.int x)) (hx : x + Int32.ofInt n = v) (hn : j < mL M) (kk : V G d M (pc + 3) (lvs L j (.int v)) st h c Q) : V G d M pc L st h c Q := by
  obtain ⟨i, hi⟩ := List.getElem?_of_mem (lvg_mem hv)
  exact V.sto (fun p e R s m args below meth cd H locs k n Z ls hG hC hl w => lv_iinc hC.1 hC.2.1 hd hl hi hx hn rfl w) kk
theorem r_iadd {x y : Int32} (hd : decode (mB M) pc = .ok (.iadd, 1)) (kk : V G d M (pc + 1) L (.int (x + y) :: st) h c Q) : V G d M pc L (.int y :: .int x :: st) h c Q :=
  V.lift (fun p e R s m args below meth cd H locs k n Z ls hG hC hl w => lv_iadd hC.1 hC.2.1 hd w) kk
theorem r_isub {x y : Int32} (hd : decode (mB M) pc = .ok (.isub, 1)) (kk : V G d M (pc + 1) L (.int (x - y) :: st) h c Q) : V G d M pc L (.int y :: .int x :: st) h c Q :=
  V.lift (fun p e R s m args below meth cd H locs k n Z ls hG hC hl w => lv_isub hC.1 hC.2.1 hd w) kk
theorem r_imul {x y : Int32} (hd : decode (mB M) pc = .ok (.imul, 1)) (kk : V G d M (pc + 1) L (.int (x * y) :: st) h c Q) : V G d M pc L (.int y :: .int x :: st) h c Q :=
  V.lift (fun p e R s m args below meth cd H locs k n Z ls hG hC hl w => lv_imul hC.1 hC.2.1 hd w) kk
theorem r_iand {x y : Int32} (hd : decode (mB M) pc = .ok (.iand, 1)) (kk : V G d M (pc + 1) L (.int (x &&& y) :: st) h c Q) : V G d M pc L (.int y :: .int x :: st) h c Q :=
  V.lift (fun p e R s m args below meth cd H locs k n Z ls hG hC hl w => lv_iand hC.1 hC.2.1 hd w) kk
theorem r_ior {x y : Int32} (hd : decode (mB M) pc = .ok (.ior, 1)) (kk : V G d M (pc + 1) L (.int (x ||| y) :: st) h c Q) : V G d M pc L (.int y :: .int x :: st) h c Q :=
  V.lift (fun p e R s m args below meth cd H locs k n Z ls hG hC hl w => lv_ior hC.1 hC.2.1 hd w) kk
theorem r_ixor {x y : Int32} (hd : decode (mB M) pc = .ok (.ixor, 1)) (kk : V G d M (pc + 1) L (.int (x ^^^ y) :: st) h c Q) : V G d M pc L (.int y :: .int x :: st) h c Q :=
  V.lift (fun p e R s m args below meth cd H locs k n Z ls hG hC hl w => lv_ixor hC.1 hC.2.1 hd w) kk
theorem r_ishl {x y : Int32} (hd : decode (mB M) pc = .ok (.ishl, 1)) (kk : V G d M (pc + 1) L (.int (x <<< (y &&& 31)) :: st) h c Q) : V G d M pc L (.int y :: .int x :: st) h c Q :=
  V.lift (fun p e R s m args below meth cd H locs k n Z ls hG hC hl w => lv_ishl hC.1 hC.2.1 hd w) kk
theorem r_ishr {x y : Int32} (hd : decode (mB M) pc = .ok (.ishr, 1)) (kk : V G d M (pc + 1) L (.int (x >>> (y &&& 31)) :: st) h c Q) : V G d M pc L (.int y :: .int x :: st) h c Q :=
  V.lift (fun p e R s m args below meth cd H locs k n Z ls hG hC hl w => lv_ishr hC.1 hC.2.1 hd w) kk
theorem r_iushr {x y : Int32} (hd : decode (mB M) pc = .ok (.iushr, 1)) (kk : V G d M (pc + 1) L (.int ((x.toUInt32 >>> (y.toUInt32 &&& Int32.toUInt32 31)).toInt32) :: st) h c Q) : V G d M pc L (.int y :: .int x :: st) h c Q :=
  V.lift (fun p e R s m args below meth cd H locs k n Z ls hG hC hl w => lv_iushr hC.1 hC.2.1 hd rfl w) kk
theorem r_idiv {x y : Int32} (hd : decode (mB M) pc = .ok (.idiv, 1)) (hy : ¬ y = 0) (kk : V G d M (pc + 1) L (.int (x / y) :: st) h c Q) : V G d M pc L (.int y :: .int x :: st) h c Q :=
  V.lift (fun p e R s m args below meth cd H locs k n Z ls hG hC hl w => lv_idiv hC.1 hC.2.1 hd hy w) kk
theorem r_irem {x y : Int32} (hd : decode (mB M) pc = .ok (.irem, 1)) (hy : ¬ y = 0) (kk : V G d M (pc + 1) L (.int (x - x / y * y) :: st) h c Q) : V G d M pc L (.int y :: .int x :: st) h c Q :=
  V.lift (fun p e R s m args below meth cd H locs k n Z ls hG hC hl w => lv_irem hC.1 hC.2.1 hd hy w) kk
theorem r_ineg {x : Int32} (hd : decode (mB M) pc = .ok (.ineg, 1)) (kk : V G d M (pc + 1) L (.int (-x) :: st) h c Q) : V G d M pc L (.int x :: st) h c Q :=
  V.lift (fun p e R s m args below meth cd H locs k n Z ls hG hC hl w => lv_ineg hC.1 hC.2.1 hd w) kk
theorem r_ladd {x y : Int64} (hd : decode (mB M) pc = .ok (.ladd, 1)) (kk : V G d M (pc + 1) L (.long (x + y) :: st) h c Q) : V G d M pc L (.long y :: .long x :: st) h c Q :=
  V.lift (fun p e R s m args below meth cd H locs k n Z ls hG hC hl w => lv_ladd hC.1 hC.2.1 hd w) kk
theorem r_lsub {x y : Int64} (hd : decode (mB M) pc = .ok (.lsub, 1)) (kk : V G d M (pc + 1) L (.long (x - y) :: st) h c Q) : V G d M pc L (.long y :: .long x :: st) h c Q :=
  V.lift (fun p e R s m args below meth cd H locs k n Z ls hG hC hl w => lv_lsub hC.1 hC.2.1 hd w) kk
theorem r_lmul {x y : Int64} (hd : decode (mB M) pc = .ok (.lmul, 1)) (kk : V G d M (pc + 1) L (.long (x * y) :: st) h c Q) : V G d M pc L (.long y :: .long x :: st) h c Q :=
  V.lift (fun p e R s m args below meth cd H locs k n Z ls hG hC hl w => lv_lmul hC.1 hC.2.1 hd w) kk
theorem r_land {x y : Int64} (hd : decode (mB M) pc = .ok (.land, 1)) (kk : V G d M (pc + 1) L (.long (x &&& y) :: st) h c Q) : V G d M pc L (.long y :: .long x :: st) h c Q :=
  V.lift (fun p e R s m args below meth cd H locs k n Z ls hG hC hl w => lv_land hC.1 hC.2.1 hd w) kk
theorem r_lor {x y : Int64} (hd : decode (mB M) pc = .ok (.lor, 1)) (kk : V G d M (pc + 1) L (.long (x ||| y) :: st) h c Q) : V G d M pc L (.long y :: .long x :: st) h c Q :=
  V.lift (fun p e R s m args below meth cd H locs k n Z ls hG hC hl w => lv_lor hC.1 hC.2.1 hd w) kk
theorem r_lxor {x y : Int64} (hd : decode (mB M) pc = .ok (.lxor, 1)) (kk : V G d M (pc + 1) L (.long (x ^^^ y) :: st) h c Q) : V G d M pc L (.long y :: .long x :: st) h c Q :=
  V.lift (fun p e R s m args below meth cd H locs k n Z ls hG hC hl w => lv_lxor hC.1 hC.2.1 hd w) kk
theorem r_lneg {x : Int64} (hd : decode (mB M) pc = .ok (.lneg, 1)) (kk : V G d M (pc + 1) L (.long (-x) :: st) h c Q) : V G d M pc L (.long x :: st) h c Q :=
  V.lift (fun p e R s m args below meth cd H locs k n Z ls hG hC hl w => lv_lneg hC.1 hC.2.1 hd w) kk
theorem r_lshl {x : Int64} {y : Int32} (hd : decode (mB M) pc = .ok (.lshl, 1)) (kk : V G d M (pc + 1) L (.long (x <<< (y.toInt64 &&& 63)) :: st) h c Q) : V G d M pc L (.int y :: .long x :: st) h c Q :=
  V.lift (fun p e R s m args below meth cd H locs k n Z ls hG hC hl w => lv_lshl hC.1 hC.2.1 hd rfl w) kk
theorem r_lushr {x : Int64} {y : Int32} (hd : decode (mB M) pc = .ok (.lushr, 1)) (kk : V G d M (pc + 1) L (.long ((x.toUInt64 >>> (y.toInt64.toUInt64 &&& Int64.toUInt64 63)).toInt64) :: st) h c Q) : V G d M pc L (.int y :: .long x :: st) h c Q :=
  V.lift (fun p e R s m args below meth cd H locs k n Z ls hG hC hl w => lv_lushr hC.1 hC.2.1 hd rfl w) kk
theorem r_i2b {x : Int32} (hd : decode (mB M) pc = .ok (.i2b, 1)) (kk : V G d M (pc + 1) L (.int (x.toInt8.toInt32) :: st) h c Q) : V G d M pc L (.int x :: st) h c Q :=
  V.lift (fun p e R s m args below meth cd H locs k n Z ls hG hC hl w => lv_i2b hC.1 hC.2.1 hd rfl w) kk
theorem r_i2s {x : Int32} (hd : decode (mB M) pc = .ok (.i2s, 1)) (kk : V G d M (pc + 1) L (.int (x.toInt16.toInt32) :: st) h c Q) : V G d M pc L (.int x :: st) h c Q :=
  V.lift (fun p e R s m args below meth cd H locs k n Z ls hG hC hl w => lv_i2s hC.1 hC.2.1 hd rfl w) kk
theorem r_i2c {x : Int32} (hd : decode (mB M) pc = .ok (.i2c, 1)) (kk : V G d M (pc + 1) L (.int ((x.toUInt32 % 65536).toInt32) :: st) h c Q) : V G d M pc L (.int x :: st) h c Q :=
  V.lift (fun p e R s m args below meth cd H locs k n Z ls hG hC hl w => lv_i2c hC.1 hC.2.1 hd rfl w) kk
theorem r_l2i {x : Int64} (hd : decode (mB M) pc = .ok (.l2i, 1)) (kk : V G d M (pc + 1) L (.int x.toInt32 :: st) h c Q) : V G d M pc L (.long x :: st) h c Q :=
  V.lift (fun p e R s m args below meth cd H locs k n Z ls hG hC hl w => lv_l2i hC.1 hC.2.1 hd rfl w) kk
theorem r_i2l {x : Int32} (hd : decode (mB M) pc = .ok (.i2l, 1)) (kk : V G d M (pc + 1) L (.long x.toInt64 :: st) h c Q) : V G d M pc L (.int x :: st) h c Q :=
  V.lift (fun p e R s m args below meth cd H locs k n Z ls hG hC hl w => lv_i2l hC.1 hC.2.1 hd rfl w) kk
theorem r_i2d {x : Int32} (hd : decode (mB M) pc = .ok (.i2d, 1)) (kk : V G d M (pc + 1) L (.double (FP.i2d x) :: st) h c Q) : V G d M pc L (.int x :: st) h c Q :=
  V.lift (fun p e R s m args below meth cd H locs k n Z ls hG hC hl w => lv_i2d hC.1 hC.2.1 hd w) kk
theorem r_i2f {x : Int32} (hd : decode (mB M) pc = .ok (.i2f, 1)) (kk : V G d M (pc + 1) L (.float (FP.i2f x) :: st) h c Q) : V G d M pc L (.int x :: st) h c Q :=
  V.lift (fun p e R s m args below meth cd H locs k n Z ls hG hC hl w => lv_i2f hC.1 hC.2.1 hd w) kk
theorem r_f2d {x : UInt32} (hd : decode (mB M) pc = .ok (.f2d, 1)) (hx : vf_n64 (FP.f2d x)) (kk : V G d M (pc + 1) L (.double (FP.f2d x) :: st) h c Q) : V G d M pc L (.float x :: st) h c Q :=
  V.lift (fun p e R s m args below meth cd H locs k n Z ls hG hC hl w => lv_f2d hC.1 hC.2.1 hd hx w) kk
theorem r_ddiv {x y : UInt64} (hd : decode (mB M) pc = .ok (.ddiv, 1)) (hx : vf_n64 (FP.ddiv x y)) (kk : V G d M (pc + 1) L (.double (FP.ddiv x y) :: st) h c Q) : V G d M pc L (.double y :: .double x :: st) h c Q :=
  V.lift (fun p e R s m args below meth cd H locs k n Z ls hG hC hl w => lv_ddiv hC.1 hC.2.1 hd hx w) kk
theorem r_fdiv {x y : UInt32} (hd : decode (mB M) pc = .ok (.fdiv, 1)) (hx : vf_n32 (FP.fdiv x y)) (kk : V G d M (pc + 1) L (.float (FP.fdiv x y) :: st) h c Q) : V G d M pc L (.float y :: .float x :: st) h c Q :=
  V.lift (fun p e R s m args below meth cd H locs k n Z ls hG hC hl w => lv_fdiv hC.1 hC.2.1 hd hx w) kk
theorem r_dcmp {x y : UInt64} {op : CmpOp} (hd : decode (mB M) pc = .ok (.dcmp op, 1)) (kk : V G d M (pc + 1) L (.int (Op.cmpValue (FP.dcmp x y) op) :: st) h c Q) : V G d M pc L (.double y :: .double x :: st) h c Q :=
  V.lift (fun p e R s m args below meth cd H locs k n Z ls hG hC hl w => lv_dcmp hC.1 hC.2.1 hd w) kk
theorem r_lcmp {x y : Int64} (hd : decode (mB M) pc = .ok (.lcmp, 1)) (kk : V G d M (pc + 1) L (.int (lg_cmp x y) :: st) h c Q) : V G d M pc L (.long y :: .long x :: st) h c Q :=
  V.lift (fun p e R s m args below meth cd H locs k n Z ls hG hC hl w => W.lcmp hC.1 hC.2.1 hd w) kk
theorem r_pop {v : Value} (hd : decode (mB M) pc = .ok (.pop, 1)) (hv : v.category = 1) (kk : V G d M (pc + 1) L (st) h c Q) : V G d M pc L (v :: st) h c Q :=
  V.lift (fun p e R s m args below meth cd H locs k n Z ls hG hC hl w => lv_pop hC.1 hC.2.1 hd hv w) kk
theorem r_dup {v : Value} (hd : decode (mB M) pc = .ok (.dup, 1)) (hv : v.category = 1) (kk : V G d M (pc + 1) L (v :: v :: st) h c Q) : V G d M pc L (v :: st) h c Q :=
  V.lift (fun p e R s m args below meth cd H locs k n Z ls hG hC hl w => lv_dup hC.1 hC.2.1 hd hv w) kk
theorem r_dup_x1 {v u : Value} (hd : decode (mB M) pc = .ok (.dup_x1, 1)) (hv : v.category = 1) (hu : u.category = 1) (kk : V G d M (pc + 1) L (v :: u :: v :: st) h c Q) : V G d M pc L (v :: u :: st) h c Q :=
  V.lift (fun p e R s m args below meth cd H locs k n Z ls hG hC hl w => lv_dup_x1 hC.1 hC.2.1 hd hv hu w) kk
theorem r_dup_x2 {v u x : Value} (hd : decode (mB M) pc = .ok (.dup_x2, 1)) (hv : v.category = 1) (hu : u.category = 1) (hx : x.category = 1) (kk : V G d M (pc + 1) L (v :: u :: x :: v :: st) h c Q) : V G d M pc L (v :: u :: x :: st) h c Q :=
  V.lift (fun p e R s m args below meth cd H locs k n Z ls hG hC hl w => lv_dup_x2 hC.1 hC.2.1 hd hv hu hx w) kk
theorem r_dup2 {v u : Value} (hd : decode (mB M) pc = .ok (.dup2, 1)) (hv : v.category = 1) (hu : u.category = 1) (kk : V G d M (pc + 1) L (v :: u :: v :: u :: st) h c Q) : V G d M pc L (v :: u :: st) h c Q :=
  V.lift (fun p e R s m args below meth cd H locs k n Z ls hG hC hl w => lv_dup2_11 hC.1 hC.2.1 hd hv hu w) kk
theorem r_dup2L {v : Value} (hd : decode (mB M) pc = .ok (.dup2, 1)) (hv : v.category = 2) (kk : V G d M (pc + 1) L (v :: v :: st) h c Q) : V G d M pc L (v :: st) h c Q :=
  V.lift (fun p e R s m args below meth cd H locs k n Z ls hG hC hl w => lv_dup2_2 hC.1 hC.2.1 hd hv w) kk
theorem r_if_eq {x : Int32} {off : Int} (tgt : Nat) (hd : decode (mB M) pc = .ok (.ifCond .eq off, 3)) (ht : (pc : Int) + off = (tgt : Int)) (kt : x = 0 → V G d M tgt L st h c Q) (kf : ¬ x = 0 → V G d M (pc + 3) L st h c Q) : V G d M pc L (.int x :: st) h c Q :=
  V.pick (P := x = 0) (fun p e R s m args below meth cd H locs k n Z ls hG hC hl wt wf => lv_if_eq hC.1 hC.2.1 hd ht wt wf) kt kf
theorem r_icmp_eq {x y : Int32} {off : Int} (tgt : Nat) (hd : decode (mB M) pc = .ok (.if_icmp .eq off, 3)) (ht : (pc : Int) + off = (tgt : Int)) (kt : x = y → V G d M tgt L st h c Q) (kf : ¬ x = y → V G d M (pc + 3) L st h c Q) : V G d M pc L (.int y :: .int x :: st) h c Q :=
  V.pick (P := x = y) (fun p e R s m args below meth cd H locs k n Z ls hG hC hl wt wf => lv_icmp_eq hC.1 hC.2.1 hd ht wt wf) kt kf
theorem r_if_ne {x : Int32} {off : Int} (tgt : Nat) (hd : decode (mB M) pc = .ok (.ifCond .ne off, 3)) (ht : (pc : Int) + off = (tgt : Int)) (kt : ¬ x = 0 → V G d M tgt L st h c Q) (kf : x = 0 → V G d M (pc + 3) L st h c Q) : V G d M pc L (.int x :: st) h c Q :=
  V.pick (P := ¬ x = 0) (fun p e R s m args below meth cd H locs k n Z ls hG hC hl wt wf => lv_if_ne hC.1 hC.2.1 hd ht wt (fun q => wf (fun nq => nq q))) kt (fun q => kf (Classical.not_not.mp q))
theorem r_icmp_ne {x y : Int32} {off : Int} (tgt : Nat) (hd : decode (mB M) pc = .ok (.if_icmp .ne off, 3)) (ht : (pc : Int) + off = (tgt : Int)) (kt : ¬ x = y → V G d M tgt L st h c Q) (kf : x = y → V G d M (pc + 3) L st h c Q) : V G d M pc L (.int y :: .int x :: st) h c Q :=
  V.pick (P := ¬ x = y) (fun p e R s m args below meth cd H locs k n Z ls hG hC hl wt wf => lv_icmp_ne hC.1 hC.2.1 hd ht wt (fun q => wf (fun nq => nq q))) kt (fun q => kf (Classical.not_not.mp q))
theorem r_if_lt {x : Int32} {off : Int} (tgt : Nat) (hd : decode (mB M) pc = .ok (.ifCond .lt off, 3)) (ht : (pc : Int) + off = (tgt : Int)) (kt : x < 0 → V G d M tgt L st h c Q) (kf : ¬ x < 0 → V G d M (pc + 3) L st h c Q) : V G d M pc L (.int x :: st) h c Q :=
  V.pick (P := x < 0) (fun p e R s m args below meth cd H locs k n Z ls hG hC hl wt wf => lv_if_lt hC.1 hC.2.1 hd ht wt wf) kt kf
theorem r_icmp_lt {x y : Int32} {off : Int} (tgt : Nat) (hd : decode (mB M) pc = .ok (.if_icmp .lt off, 3)) (ht : (pc : Int) + off = (tgt : Int)) (kt : x < y → V G d M tgt L st h c Q) (kf : ¬ x < y → V G d M (pc + 3) L st h c Q) : V G d M pc L (.int y :: .int x :: st) h c Q :=
  V.pick (P := x < y) (fun p e R s m args below meth cd H locs k n Z ls hG hC hl wt wf => lv_icmp_lt hC.1 hC.2.1 hd ht wt wf) kt kf
theorem r_if_ge {x : Int32} {off : Int} (tgt : Nat) (hd : decode (mB M) pc = .ok (.ifCond .ge off, 3)) (ht : (pc : Int) + off = (tgt : Int)) (kt : 0 ≤ x → V G d M tgt L st h c Q) (kf : ¬ 0 ≤ x → V G d M (pc + 3) L st h c Q) : V G d M pc L (.int x :: st) h c Q :=
  V.pick (P := 0 ≤ x) (fun p e R s m args below meth cd H locs k n Z ls hG hC hl wt wf => lv_if_ge hC.1 hC.2.1 hd ht wt wf) kt kf
theorem r_icmp_ge {x y : Int32} {off : Int} (tgt : Nat) (hd : decode (mB M) pc = .ok (.if_icmp .ge off, 3)) (ht : (pc : Int) + off = (tgt : Int)) (kt : y ≤ x → V G d M tgt L st h c Q) (kf : ¬ y ≤ x → V G d M (pc + 3) L st h c Q) : V G d M pc L (.int y :: .int x :: st) h c Q :=
  V.pick (P := y ≤ x) (fun p e R s m args below meth cd H locs k n Z ls hG hC hl wt wf => lv_icmp_ge hC.1 hC.2.1 hd ht wt wf) kt kf
theorem r_if_gt {x : Int32} {off : Int} (tgt : Nat) (hd : decode (mB M) pc = .ok (.ifCond .gt off, 3)) (ht : (pc : Int) + off = (tgt : Int)) (kt : 0 < x → V G d M tgt L st h c Q) (kf : ¬ 0 < x → V G d M (pc + 3) L st h c Q) : V G d M pc L (.int x :: st) h c Q :=
  V.pick (P := 0 < x) (fun p e R s m args below meth cd H locs k n Z ls hG hC hl wt wf => lv_if_gt hC.1 hC.2.1 hd ht wt wf) kt kf
theorem r_icmp_gt {x y : Int32} {off : Int} (tgt : Nat) (hd : decode (mB M) pc = .ok (.if_icmp .gt off, 3)) (ht : (pc : Int) + off = (tgt : Int)) (kt : y < x → V G d M tgt L st h c Q) (kf : ¬ y < x → V G d M (pc + 3) L st h c Q) : V G d M pc L (.int y :: .int x :: st) h c Q :=
  V.pick (P := y < x) (fun p e R s m args below meth cd H locs k n Z ls hG hC hl wt wf => lv_icmp_gt hC.1 hC.2.1 hd ht wt wf) kt kf
theorem r_if_le {x : Int32} {off : Int} (tgt : Nat) (hd : decode (mB M) pc = .ok (.ifCond .le off, 3)) (ht : (pc : Int) + off = (tgt : Int)) (kt : x ≤ 0 → V G d M tgt L st h c Q) (kf : ¬ x ≤ 0 → V G d M (pc + 3) L st h c Q) : V G d M pc L (.int x :: st) h c Q :=
  V.pick (P := x ≤ 0) (fun p e R s m args below meth cd H locs k n Z ls hG hC hl wt wf => lv_if_le hC.1 hC.2.1 hd ht wt wf) kt kf
theorem r_icmp_le {x y : Int32} {off : Int} (tgt : Nat) (hd : decode (mB M) pc = .ok (.if_icmp .le off, 3)) (ht : (pc : Int) + off = (tgt : Int)) (kt : x ≤ y → V G d M tgt L st h c Q) (kf : ¬ x ≤ y → V G d M (pc + 3) L st h c Q) : V G d M pc L (.int y :: .int x :: st) h c Q :=
  V.pick (P := x ≤ y) (fun p e R s m args below meth cd H locs k n Z ls hG hC hl wt wf => lv_icmp_le hC.1 hC.2.1 hd ht wt wf) kt kf
theorem r_acmp_eq {x y : Option Nat} {off : Int} (tgt : Nat) (hd : decode (mB M) pc = .ok (.if_acmp .eq off, 3)) (ht : (pc : Int) + off = (tgt : Int)) (kt : x = y → V G d M tgt L st h c Q) (kf : ¬ x = y → V G d M (pc + 3) L st h c Q) : V G d M pc L (va_rf y :: va_rf x :: st) h c Q :=
  V.pick (P := x = y) (fun p e R s m args below meth cd H locs k n Z ls hG hC hl wt wf => lv_acmp_eq hC.1 hC.2.1 hd ht wt wf) kt kf
theorem r_acmp_ne {x y : Option Nat} {off : Int} (tgt : Nat) (hd : decode (mB M) pc = .ok (.if_acmp .ne off, 3)) (ht : (pc : Int) + off = (tgt : Int)) (kt : ¬ x = y → V G d M tgt L st h c Q) (kf : x = y → V G d M (pc + 3) L st h c Q) : V G d M pc L (va_rf y :: va_rf x :: st) h c Q :=
  V.pick (P := ¬ x = y) (fun p e R s m args below meth cd H locs k n Z ls hG hC hl wt wf => lv_acmp_ne hC.1 hC.2.1 hd ht wt (fun q => wf (fun nq => nq q))) kt (fun q => kf (Classical.not_not.mp q))
theorem r_goto {off : Int} (tgt : Nat) (hd : decode (mB M) pc = .ok (.goto off, 3)) (ht : (pc : Int) + off = (tgt : Int)) (kk : V G d M tgt L (st) h c Q) : V G d M pc L (st) h c Q :=
  V.lift (fun p e R s m args below meth cd H locs k n Z ls hG hC hl w => lv_goto hC.1 hC.2.1 hd ht w) kk
theorem r_ifnonnull {x : Nat} {off : Int} (tgt : Nat) (hd : decode (mB M) pc = .ok (.ifnonnull off, 3)) (ht : (pc : Int) + off = (tgt : Int)) (kk : V G d M tgt L (st) h c Q) : V G d M pc L (.ref x :: st) h c Q :=
  V.lift (fun p e R s m args below meth cd H locs k n Z ls hG hC hl w => lv_ifnonnull hC.1 hC.2.1 hd ht w) kk
theorem r_ifnull {x : Nat} {off : Int} (hd : decode (mB M) pc = .ok (.ifnull off, 3)) (kk : V G d M (pc + 3) L (st) h c Q) : V G d M pc L (.ref x :: st) h c Q :=
  V.lift (fun p e R s m args below meth cd H locs k n Z ls hG hC hl w => lv_ifnull hC.1 hC.2.1 hd w) kk
theorem r_ifnullN {off : Int} (tgt : Nat) (hd : decode (mB M) pc = .ok (.ifnull off, 3)) (ht : (pc : Int) + off = (tgt : Int)) (kk : V G d M tgt L (st) h c Q) : V G d M pc L (.null :: st) h c Q :=
  V.lift (fun p e R s m args below meth cd H locs k n Z ls hG hC hl w => lv_ifnullN hC.1 hC.2.1 hd ht w) kk
theorem r_ifnonnullN {off : Int} (hd : decode (mB M) pc = .ok (.ifnonnull off, 3)) (kk : V G d M (pc + 3) L (st) h c Q) : V G d M pc L (.null :: st) h c Q :=
  V.lift (fun p e R s m args below meth cd H locs k n Z ls hG hC hl w => lv_ifnonnullN hC.1 hC.2.1 hd w) kk
theorem r_lookup {dflt : Int} {ps : Array (Int × Int)} {len : Nat} {x : Int32} {off : Int} (tgt : Nat) (hd : decode (mB M) pc = .ok (.lookupswitch dflt ps, len)) (hp : (ps.toList.zip (ps.toList.drop 1)).all (fun (a, next) => a.1 < next.1) = true) (ho : Op.lookupswitch.offset ps.toList dflt x.toInt = off) (ht : (pc : Int) + off = (tgt : Int)) (kk : V G d M tgt L st h c Q) : V G d M pc L (.int x :: st) h c Q :=
  V.lift (fun p e R s m args below meth cd H locs k n Z ls hG hC hl w => lv_lookup hC.1 hC.2.1 hd hp ho ht w) kk
theorem r_tableOut {dflt lo hi : Int} {offs : Array Int} {len : Nat} {x : Int32} (tgt : Nat) (hd : decode (mB M) pc = .ok (.tableswitch dflt lo hi offs, len)) (hx : x.toInt < lo ∨ hi < x.toInt) (ht : (pc : Int) + dflt = (tgt : Int)) (kk : V G d M tgt L st h c Q) : V G d M pc L (.int x :: st) h c Q :=
  V.lift (fun p e R s m args below meth cd H locs k n Z ls hG hC hl w => lv_tableOut hC.1 hC.2.1 hd hx ht w) kk
theorem r_tableIn {dflt lo hi : Int} {offs : Array Int} {len : Nat} {x : Int32} {off : Int} (tgt : Nat) (hd : decode (mB M) pc = .ok (.tableswitch dflt lo hi offs, len)) (h1 : ¬ x.toInt < lo) (h2 : ¬ hi < x.toInt) (ho : offs[(x.toInt - lo).toNat]? = some off) (ht : (pc : Int) + off = (tgt : Int)) (kk : V G d M tgt L st h c Q) : V G d M pc L (.int x :: st) h c Q :=
  V.lift (fun p e R s m args below meth cd H locs k n Z ls hG hC hl w => lv_tableIn hC.1 hC.2.1 hd h1 h2 ho ht w) kk
theorem r_ldc {ix : Nat} {v : Int32} (hd : decode (mB M) pc = .ok (.ldc ix, 2)) (hw : lk (.constant (mN M).cls ix v)) (kk : V G d M (pc + 2) L (.int v :: st) h c Q) : V G d M pc L st h c Q :=
  V.lift (fun p e R s m args below meth cd H locs k n Z ls hG hC hl w => lv_ldc hC.1 hC.2.1 hC.2.2.2.2.2.2.1 (wd hG hC.2.2.2.2.2.2.2.2.1 hw args) hd w) kk
theorem r_ldcw {ix : Nat} {v : Int32} (hd : decode (mB M) pc = .ok (.ldc_w ix, 3)) (hw : lk (.constant (mN M).cls ix v)) (kk : V G d M (pc + 3) L (.int v :: st) h c Q) : V G d M pc L st h c Q :=
  V.lift (fun p e R s m args below meth cd H locs k n Z ls hG hC hl w => lv_ldcw hC.1 hC.2.1 hC.2.2.2.2.2.2.1 (wd hG hC.2.2.2.2.2.2.2.2.1 hw args) hd w) kk
theorem r_ldc2 {ix : Nat} {v : Int64} (hd : decode (mB M) pc = .ok (.ldc2_w ix, 3)) (hw : lk (.constantLong (mN M).cls ix v)) (kk : V G d M (pc + 3) L (.long v :: st) h c Q) : V G d M pc L st h c Q :=
  V.lift (fun p e R s m args below meth cd H locs k n Z ls hG hC hl w => lv_ldc2 hC.1 hC.2.1 hC.2.2.2.2.2.2.1 (wd hG hC.2.2.2.2.2.2.2.2.1 hw args) hd w) kk
theorem r_ldc2d {ix : Nat} {v : UInt64} (hd : decode (mB M) pc = .ok (.ldc2_w ix, 3)) (hw : lk (.constantDouble (mN M).cls ix v)) (kk : V G d M (pc + 3) L (.double v :: st) h c Q) : V G d M pc L st h c Q :=
  V.lift (fun p e R s m args below meth cd H locs k n Z ls hG hC hl w => lv_ldc2d hC.1 hC.2.1 hC.2.2.2.2.2.2.1 (wd hG hC.2.2.2.2.2.2.2.2.1 hw args) hd w) kk
/-! ### the heap's rules -/
theorem va_P1 {D : va_G} {cl : List vw_C} {q : Nat × va_E} {H : Heap} (h : va_at D cl q H) : va_P D cl [q] H := fun k x hx => by
  have hz : k < 1 := (List.getElem?_eq_some_iff.mp hx).1
  rw [show k = 0 by omega] at hx
  cases hx
  exact h
theorem gW {G : GG} {M : Mt} {d : Nat} {p : Program} {R : Room} {s : State} {m : MethodId} {meth : Method} {cd : Code} (hC : Cx G M d p R s m meth cd) : (gS G).WarmedH s.vm := hC.2.2.2.2.2.2.2.2.1
theorem gO {G : GG} {M : Mt} {d : Nat} {p : Program} {R : Room} {s : State} {m : MethodId} {meth : Method} {cd : Code} (hC : Cx G M d p R s m meth cd) : s.vm.findClass (mN M).cls = some m.cls := hC.2.2.2.2.2.2.1
def gTys (G : GG) : List (ClassId × FieldType) := [(gA G 0, aT 0), (gA G 1, aT 1), (gA G 2, aT 2), (gA G 3, aT 3), (gA G 4, aT 4)]
theorem gTys_at (G : GG) {t : Nat} (ht : t < 5) : (gTys G)[t]? = some (gA G t, aT t) := by
  rcases (show t = 0 ∨ t = 1 ∨ t = 2 ∨ t = 3 ∨ t = 4 by omega) with rfl | rfl | rfl | rfl | rfl <;> rfl
theorem gK {G : GG} (hG : GOk G) {s : State} (hW : (gS G).WarmedH s.vm) : va_K (gC G, gI G) kCl (gTys G) s := by
  refine va_K.moved hW.alike ⟨hG.2.2.1, fun k q hk => ?_⟩
  have hz : k < 5 := (List.getElem?_eq_some_iff.mp hk).1
  rw [gTys_at G hz] at hk
  cases hk
  exact hG.2.2.2 k hz
theorem gArr {G : GG} (hG : GOk G) {s : State} (hW : (gS G).WarmedH s.vm) {t : Nat} (ht : t < 5) : ArrOfT s (gA G t) (aT t) := ((gK hG hW).2 t _ (gTys_at G ht)).1
theorem gLays {G : GG} (hG : GOk G) {s : State} (hW : (gS G).WarmedH s.vm) {ci : Nat} {r : vw_C} (hr : kCl[ci]? = some r) (a : Array Value) : ∀ w ∈ u_ws r.1 r.2.1 r.2.2, w.before a s = true := fun w hw => wd hG hW (lkA (kIn ci r hr w hw)) a
theorem Rep.lt {G : GG} {h : HP} {H : Heap} (hR : Rep G h H) {a : Nat} {b : Bd} (ha : h a = some b) : a < H.size := ((hR.2 a b ha).2.2.lt : (a, toE G b).1 < H.size)
theorem Rep.put {G : GG} {h : HP} {H H' : Heap} (hR : Rep G h H) {a : Nat} {b0 b : Bd} (ha : h a = some b0) (hat : va_at (gC G, gI G) kCl (a, toE G b) H') (hok : okB b) (hz : H'.size = H.size) (oq : ∀ q : Nat, q ≠ a → H'[q]? = H[q]?) : Rep G (hu h a b) H' := by
  obtain ⟨⟨h1, h2⟩, h3⟩ := hR
  have hge := (h3 a b0 ha).1
  refine ⟨⟨by omega, fun q hq => by rw [oq q (by omega)]; exact h2 q hq⟩, fun a' b' h' => ?_⟩
  by_cases e : a' = a
  · subst e
    rw [hu_s] at h'
    cases h'
    exact ⟨hge, hok, hat⟩
  · rw [hu_n e] at h'
    obtain ⟨g1, g2, g3⟩ := h3 a' b' h'
    exact ⟨g1, g2, g3.kept (oq a' e)⟩
theorem Rep.new {G : GG} {h : HP} {H H' : Heap} (hR : Rep G h H) {b : Bd} (hat : va_at (gC G, gI G) kCl (H.size, toE G b) H') (hok : okB b) (hz : H'.size = H.size + 1) (oq : ∀ q : Nat, q < H.size → H'[q]? = H[q]?) : Rep G (hu h H.size b) H' ∧ h H.size = none := by
  have hn : h H.size = none := by
    cases e : h H.size with
    | none => rfl
    | some b' => exact absurd (hR.lt e) (Nat.lt_irrefl _)
  obtain ⟨⟨h1, h2⟩, h3⟩ := hR
  refine ⟨⟨⟨by omega, fun q hq => by rw [oq q (by omega)]; exact h2 q hq⟩, fun a' b' h' => ?_⟩, hn⟩
  by_cases e : a' = H.size
  · subst e
    rw [hu_s] at h'
    cases h'
    exact ⟨h1, hok, hat⟩
  · rw [hu_n e] at h'
    obtain ⟨g1, g2, g3⟩ := h3 a' b' h'
    exact ⟨g1, g2, g3.kept (oq a' (g3.lt : (a', toE G b').1 < H.size))⟩
/-- what any cell of the pure heap is, to a reader: objects -/
theorem has_obj {G : GG} {h : HP} {H : Heap} (hR : Rep G h H) {a ci : Nat} {fs : List Value} (ha : Has G h a (bO ci fs)) : ∃ (cell : Cell) (r : vw_C), H[a]? = some cell ∧ cell.vm ≠ .unknown ∧ cell.vm.isStatics = false ∧ kCl[ci]? = some r ∧ cell.cls = gC G ci ∧ ∀ (k : Nat) (v : Value), k < r.2.2 → fs[k]? = some v → cell.slots[gI G ci k]? = some v := by
  rcases ha with ha | ⟨cell, c1, c2, c3, r, h1, h2, h3⟩
  · obtain ⟨-, -, r, h1, cell, q1, q2, q3, q4⟩ := hR.2 a _ ha
    have h1 : kCl[ci]? = some r := h1
    have q2 : cell.cls = gC G ci := q2
    refine ⟨cell, r, q1, (by rw [q3]; exact (fun h => by cases h)), (by rw [q3]; rfl), h1, q2, fun k v hk hv => ?_⟩
    have q5 : cell.slots[gI G ci k]? = some (vp_V fs k) := q4 k hk
    rw [q5]
    simp [vp_V, hv]
  · have hl := (Array.getElem?_eq_some_iff.mp c1).1
    exact ⟨cell, r, by rw [hR.1.2 a hl]; exact c1, c2, c3, h1, h2, fun k v _ hv => h3 k v hv⟩
theorem has_int {G : GG} (hG : GOk G) {s : State} (hW : (gS G).WarmedH s.vm) {h : HP} {H : Heap} (hR : Rep G h H) {a t n : Nat} {f : Nat → Int32} (ht : t < 5) (ha : Has G h a (bI t n f)) : ∃ cell : Cell, H[a]? = some cell ∧ cell.vm ≠ .unknown ∧ cell.vm.isStatics = false ∧ s.isArrayOf cell (aT t) ∧ cell.slots.size = n ∧ ∀ j : Nat, j < n → cell.slots[j]? = some (.int (f j)) := by
  rcases ha with ha | ⟨cell, c1, c2, c3, c4, c5, c6⟩
  · obtain ⟨-, -, hat⟩ := hR.2 a _ ha
    have hat : H[a]? = some (arrV (gA G t) n (fun j => .int (f j))) := hat
    exact ⟨_, hat, (fun h => by cases h), rfl, gArr hG hW ht n _, arrV_size _ _ _, fun j hj => arrV_read _ _ hj⟩
  · have hl := (Array.getElem?_eq_some_iff.mp c1).1
    exact ⟨cell, by rw [hR.1.2 a hl]; exact c1, c2, c3, State.isArrayOf_alike hW.alike c4, c5, c6⟩
theorem has_lng {G : GG} (hG : GOk G) {s : State} (hW : (gS G).WarmedH s.vm) {h : HP} {H : Heap} (hR : Rep G h H) {a n : Nat} {f : Nat → Int64} (ha : Has G h a (bL n f)) : ∃ cell : Cell, H[a]? = some cell ∧ cell.vm ≠ .unknown ∧ cell.vm.isStatics = false ∧ s.isArrayOf cell .long ∧ cell.slots.size = n ∧ ∀ j : Nat, j < n → cell.slots[j]? = some (.long (f j)) := by
  rcases ha with ha | ⟨cell, c1, c2, c3, c4⟩
  · obtain ⟨-, -, hat⟩ := hR.2 a _ ha
    have hat : H[a]? = some (arrV (gA G 2) n (fun j => .long (f j))) := hat
    exact ⟨_, hat, (fun h => by cases h), rfl, gArr hG hW (t := 2) (by decide) n _, arrV_size _ _ _, fun j hj => arrV_read _ _ hj⟩
  · exact c4.elim
theorem has_ref {G : GG} (hG : GOk G) {s : State} (hW : (gS G).WarmedH s.vm) {h : HP} {H : Heap} (hR : Rep G h H) {a t n : Nat} {f : Nat → Option Nat} (ht : t < 5) (ha : Has G h a (bR t n f)) : ∃ cell : Cell, H[a]? = some cell ∧ cell.vm ≠ .unknown ∧ cell.vm.isStatics = false ∧ s.isArrayOf cell (aT t) ∧ cell.slots.size = n ∧ ∀ j : Nat, j < n → cell.slots[j]? = some (va_rf (f j)) := by
  rcases ha with ha | ⟨cell, c1, c2, c3, c4, c5, c6⟩
  · obtain ⟨-, -, hat⟩ := hR.2 a _ ha
    have hat : H[a]? = some (arrV (gA G t) n (fun j => va_rf (f j))) := hat
    exact ⟨_, hat, (fun h => by cases h), rfl, gArr hG hW ht n _, arrV_size _ _ _, fun j hj => arrV_read _ _ hj⟩
  · have hl := (Array.getElem?_eq_some_iff.mp c1).1
    exact ⟨cell, by rw [hR.1.2 a hl]; exact c1, c2, c3, State.isArrayOf_alike hW.alike c4, c5, c6⟩
/-- an index -/
theorem ix_ok {i : Int32} {j n : Nat} (hi : i.toInt = (j : Int)) (hj : j < n) : ¬ (i < 0 ∨ n ≤ i.toNatClampNeg) ∧ i.toNatClampNeg = j := by
  have h1 : i.toNatClampNeg = j := by
    show i.toInt.toNat = j
    omega
  refine ⟨fun h => ?_, h1⟩
  rcases h with h | h
  · have := Int32.lt_iff_toInt_lt.mp h
    have h0 : (0 : Int32).toInt = 0 := rfl
    omega
  · omega
def fSame (ref : String) (t : String × String × String × Bool) : Prop := ref = t.1 ∨ lk (.sameField ref t.1 t.2.1 t.2.2.1)
theorem fSame.use {G : GG} (hG : GOk G) {s : State} (hW : (gS G).WarmedH s.vm) {ref : String} {t : String × String × String × Bool} (h : fSame ref t) : ∀ x, s.fieldFound? t.1 t.2.1 t.2.2.1 = some x → s.fieldFound? ref t.2.1 t.2.2.1 = some x := by
  rcases h with rfl | h
  · exact fun _ h => h
  · exact u_same (wd hG hW h #[])
theorem r_getfield {ix : Nat} (ci k : Nat) {r : vw_C} {ref : String} {fs : List Value} {v : Value} {a : Nat} (hd : decode (mB M) pc = .ok (.getfield ix, 3)) (hr : kCl[ci]? = some r) (hk : k < r.2.2) (hw : lk (.fieldLink (mN M).cls ix ref (r.2.1 k).2.1 (r.2.1 k).2.2.1)) (hs : fSame ref (r.2.1 k)) (ha : Has G h a (bO ci fs)) (hv : fs[k]? = some v) (kk : V G d M (pc + 3) L (v :: st) h c Q) : V G d M pc L (.ref a :: st) h c Q := by
  intro hG p e R s m args below meth cd Z hC hF H locs kc n ls hR hl hkc hn hls
  obtain ⟨cell, r', c1, c2, c3, c4, c5, c6⟩ := has_obj hR ha
  cases c4.symm.trans hr
  have hts := gLays hG (gW hC) hr args
  obtain ⟨hS, hfc, kC, hkC, hkind⟩ := (gK hG (gW hC)).1 ci _ hr
  obtain ⟨cf, kf, fi, f, hi, hsl⟩ := hS k hk
  refine W.getf hC.1 hC.2.1 (gO hC) (wd hG (gW hC) hw args) (hs.use hG (gW hC) _ hi) (u_facts hfc hkC (u_lays hts (fun w h => h) hk) hi).1 c1 c2 (v := v) ?_ rfl rfl hd (kk hG p e R s m args below meth cd Z hC hF H locs kc n ls hR hl hkc hn hls)
  rw [hsl]
  exact c6 k v hk hv
theorem r_getfieldN {ix : Nat} (ci k : Nat) {r : vw_C} {ref host : String} {fs : List Value} {v : Value} {a : Nat} (hd : decode (mB M) pc = .ok (.getfield ix, 3)) (hr : kCl[ci]? = some r) (hk : k < r.2.2) (hw : lk (.fieldLinkNest (mN M).cls ix ref (r.2.1 k).2.1 (r.2.1 k).2.2.1 host)) (hs : fSame ref (r.2.1 k)) (ha : Has G h a (bO ci fs)) (hv : fs[k]? = some v) (kk : V G d M (pc + 3) L (v :: st) h c Q) : V G d M pc L (.ref a :: st) h c Q := by
  intro hG p e R s m args below meth cd Z hC hF H locs kc n ls hR hl hkc hn hls
  obtain ⟨cell, r', c1, c2, c3, c4, c5, c6⟩ := has_obj hR ha
  cases c4.symm.trans hr
  have hts := gLays hG (gW hC) hr args
  obtain ⟨hS, hfc, kC, hkC, hkind⟩ := (gK hG (gW hC)).1 ci _ hr
  obtain ⟨cf, kf, fi, f, hi, hsl⟩ := hS k hk
  refine va_Wgetf hC.1 hC.2.1 (gO hC) (wd hG (gW hC) hw args) (hs.use hG (gW hC) _ hi) (u_facts hfc hkC (u_lays hts (fun w h => h) hk) hi).1 c1 c2 (v := v) ?_ rfl rfl hd (kk hG p e R s m args below meth cd Z hC hF H locs kc n ls hR hl hkc hn hls)
  rw [hsl]
  exact c6 k v hk hv
theorem r_putfield {ix : Nat} (ci k : Nat) {r : vw_C} {ref : String} {fs : List Value} {v : Value} {a : Nat} (hd : decode (mB M) pc = .ok (.putfield ix, 3)) (hr : kCl[ci]? = some r) (hk : k < r.2.2) (hw : lk (.fieldLink (mN M).cls ix ref (r.2.1 k).2.1 (r.2.1 k).2.2.1)) (hs : fSame ref (r.2.1 k)) (hfin : (r.2.1 k).2.2.2 = false) (ha : h a = some (bO ci fs)) (hl9 : k < fs.length) (hnv : narrow (kty ci k) v = v) (hfit : fits (kty ci k) v = true) (kk : V G d M (pc + 3) L st (hu h a (bO ci (fs.set k v))) c Q) : V G d M pc L (v :: .ref a :: st) h c Q := by
  intro hG p e R s m args below meth cd Z hC hF H locs kc n ls hR hl hkc hn hls
  have hts := gLays hG (gW hC) hr args
  have hK := gK hG (gW hC)
  have hap := va_apart (own := (mN M).cls) hts (fun w h => h) (kty ci) (kTy ci r hr) (kNm ci r hr) hK hr
  obtain ⟨hge, -, r', h1, cell, q1, q2, q3, q4⟩ := hR.2 a _ ha
  have h1 : kCl[ci]? = some r' := h1
  cases h1.symm.trans hr
  have q4 : ∀ k, k < r.2.2 → cell.slots[gI G ci k]? = some (vp_V fs k) := q4
  obtain ⟨hS, hfc, kC, hkC, hkind⟩ := hK.1 ci _ hr
  obtain ⟨cf, kf, fi, f, hi, hsl⟩ := hS k hk
  have hsl : f.slot = gI G ci k := hsl
  have hlay := hts _ (u_in_lay hk)
  unfold u_lay at hlay
  rw [if_neg (by rw [hfin]; decide)] at hlay
  have hst := (u_facts hfc hkC (u_lays hts (fun w h => h) hk) hi).1
  have h6 := u_store hfc hkC hkind hlay hi (kTy ci r hr k hk) hnv hfit
  refine W.putK hC.1 hC.2.1 (f := f) ⟨gO hC, wd hG (gW hC) hw args, ⟨_, _, _, hs.use hG (gW hC) _ hi⟩, hst⟩ (by rw [q2]; exact h6) q1 q3 (by rw [hsl]; exact k2_hasslot (q4 k hk)) rfl rfl hd fun H' e1 e2 e3 => ?_
  rw [hsl] at e1 ⊢
  have hat : va_at (gC G, gI G) kCl (a, toE G (bO ci (fs.set k v))) H' := ⟨_, hr, t_OB.to (V := updV (vp_V fs) k v) ⟨_, e1, q2, q3, t_set q4 hap hk v⟩ (fun j _ => vp_updV_set hl9 v j)⟩
  exact kk hG p e R s m args below meth cd Z hC hF H' _ kc n ls (hR.put ha hat trivial e2 e3) (fun q hq => by
    rcases List.mem_append.mp hq with h | h
    · exact hl q h
    · rw [List.mem_singleton.mp h]; exact hge) hkc hn hls
theorem r_putfieldN {ix : Nat} (ci k : Nat) {r : vw_C} {ref host : String} {fs : List Value} {v : Value} {a : Nat} (hd : decode (mB M) pc = .ok (.putfield ix, 3)) (hr : kCl[ci]? = some r) (hk : k < r.2.2) (hw : lk (.fieldLinkNest (mN M).cls ix ref (r.2.1 k).2.1 (r.2.1 k).2.2.1 host)) (hs : fSame ref (r.2.1 k)) (hfin : (r.2.1 k).2.2.2 = false) (ha : h a = some (bO ci fs)) (hl9 : k < fs.length) (hnv : narrow (kty ci k) v = v) (hfit : fits (kty ci k) v = true) (kk : V G d M (pc + 3) L st (hu h a (bO ci (fs.set k v))) c Q) : V G d M pc L (v :: .ref a :: st) h c Q := by
  intro hG p e R s m args below meth cd Z hC hF H locs kc n ls hR hl hkc hn hls
  have hts := gLays hG (gW hC) hr args
  have hK := gK hG (gW hC)
  have hap := va_apart (own := (mN M).cls) hts (fun w h => h) (kty ci) (kTy ci r hr) (kNm ci r hr) hK hr
  obtain ⟨hge, -, r', h1, cell, q1, q2, q3, q4⟩ := hR.2 a _ ha
  have h1 : kCl[ci]? = some r' := h1
  cases h1.symm.trans hr
  have q4 : ∀ k, k < r.2.2 → cell.slots[gI G ci k]? = some (vp_V fs k) := q4
  obtain ⟨hS, hfc, kC, hkC, hkind⟩ := hK.1 ci _ hr
  obtain ⟨cf, kf, fi, f, hi, hsl⟩ := hS k hk
  have hsl : f.slot = gI G ci k := hsl
  have hlay := hts _ (u_in_lay hk)
  unfold u_lay at hlay
  rw [if_neg (by rw [hfin]; decide)] at hlay
  have hst := (u_facts hfc hkC (u_lays hts (fun w h => h) hk) hi).1
  have h6 := u_store hfc hkC hkind hlay hi (kTy ci r hr k hk) hnv hfit
  refine va_WputK hC.1 hC.2.1 (f := f) (gO hC) (wd hG (gW hC) hw args) (hs.use hG (gW hC) _ hi) hst (by rw [q2]; exact h6) q1 q3 (by rw [hsl]; exact k2_hasslot (q4 k hk)) rfl rfl hd fun H' e1 e2 e3 => ?_
  rw [hsl] at e1 ⊢
  have hat : va_at (gC G, gI G) kCl (a, toE G (bO ci (fs.set k v))) H' := ⟨_, hr, t_OB.to (V := updV (vp_V fs) k v) ⟨_, e1, q2, q3, t_set q4 hap hk v⟩ (fun j _ => vp_updV_set hl9 v j)⟩
  exact kk hG p e R s m args below meth cd Z hC hF H' _ kc n ls (hR.put ha hat trivial e2 e3) (fun q hq => by
    rcases List.mem_append.mp hq with h | h
    · exact hl q h
    · rw [List.mem_singleton.mp h]; exact hge) hkc hn hls
theorem r_putfieldF {ix : Nat} (ci k : Nat) {r : vw_C} {fs : List Value} {v : Value} {a : Nat} (hd : decode (mB M) pc = .ok (.putfield ix, 3)) (hr : kCl[ci]? = some r) (hk : k < r.2.2) (hw : lk (.fieldLink (mN M).cls ix (r.2.1 k).1 (r.2.1 k).2.1 (r.2.1 k).2.2.1)) (hfin : (r.2.1 k).2.2.2 = true) (hin : (mN M).name = "<init>") (hdecl : (r.2.1 k).1 = (mN M).cls) (ha : h a = some (bO ci fs)) (hl9 : k < fs.length) (hnv : narrow (kty ci k) v = v) (hfit : fits (kty ci k) v = true) (kk : V G d M (pc + 3) L st (hu h a (bO ci (fs.set k v))) c Q) : V G d M pc L (v :: .ref a :: st) h c Q := by
  intro hG p e R s m args below meth cd Z hC hF H locs kc n ls hR hl hkc hn hls
  have hts := gLays hG (gW hC) hr args
  have hK := gK hG (gW hC)
  have hap := va_apart (own := (mN M).cls) hts (fun w h => h) (kty ci) (kTy ci r hr) (kNm ci r hr) hK hr
  obtain ⟨hge, -, r', h1, cell, q1, q2, q3, q4⟩ := hR.2 a _ ha
  have h1 : kCl[ci]? = some r' := h1
  cases h1.symm.trans hr
  have q4 : ∀ k, k < r.2.2 → cell.slots[gI G ci k]? = some (vp_V fs k) := q4
  obtain ⟨hS, hfc, kC, hkC, hkind⟩ := hK.1 ci _ hr
  obtain ⟨cf, kf, fi, f, hi, hsl⟩ := hS k hk
  have hsl : f.slot = gI G ci k := hsl
  have hlay := hts _ (u_in_lay hk)
  unfold u_lay at hlay
  rw [if_pos hfin] at hlay
  have hst := (u_facts hfc hkC (u_lays hts (fun w h => h) hk) hi).1
  have hcf : m.cls = cf := by
    obtain ⟨_, _, c', _, _, _, -, -, hf', -, -, -, hown2, -⟩ := Cond.laysFinal_spec hlay
    have e1 : c' = cf := by have := hi.symm.trans hf'; simp at this; exact this.1.symm
    rw [hdecl] at hown2
    rw [← e1]; exact Option.some.inj ((gO hC).symm.trans hown2)
  have h6 := u_fits hfc hkC hkind (Or.inr hlay) hi (kTy ci r hr k hk) hnv hfit
  refine W.putFinK hC.1 hC.2.1 (gO hC) (wd hG (gW hC) hw args) hi hst hcf (hC.2.2.2.2.2.2.2.1.trans hin) (by rw [q2]; exact h6) q1 q3 (by rw [hsl]; exact k2_hasslot (q4 k hk)) rfl rfl hd fun H' e1 e2 e3 => ?_
  rw [hsl] at e1 ⊢
  have hat : va_at (gC G, gI G) kCl (a, toE G (bO ci (fs.set k v))) H' := ⟨_, hr, t_OB.to (V := updV (vp_V fs) k v) ⟨_, e1, q2, q3, t_set q4 hap hk v⟩ (fun j _ => vp_updV_set hl9 v j)⟩
  exact kk hG p e R s m args below meth cd Z hC hF H' _ kc n ls (hR.put ha hat trivial e2 e3) (fun q hq => by
    rcases List.mem_append.mp hq with h | h
    · exact hl q h
    · rw [List.mem_singleton.mp h]; exact hge) hkc hn hls
/-! arrays -/
theorem r_iaload {a n : Nat} {f : Nat → Int32} {i x : Int32} (j : Nat) (hd : decode (mB M) pc = .ok (.iaload, 1)) (ha : Has G h a (bI 0 n f)) (hi : i.toInt = (j : Int)) (hj : j < n) (hv : f j = x) (kk : V G d M (pc + 1) L (.int x :: st) h c Q) : V G d M pc L (.int i :: .ref a :: st) h c Q := by
  intro hG p e R s m args below meth cd Z hC hF H locs kc n' ls hR hl hkc hn hls
  obtain ⟨cell, c1, c2, c3, c4, c5, c6⟩ := has_int hG (gW hC) hR (by decide) ha
  obtain ⟨i1, i2⟩ := ix_ok hi hj
  subst hv
  exact W.iald hC.1 hC.2.1 c1 c4 c2 (by rw [c5]; exact i1) (by rw [i2]; exact c6 j hj) rfl rfl hd (kk hG p e R s m args below meth cd Z hC hF H locs kc n' ls hR hl hkc hn hls)
theorem r_baload {a n : Nat} {f : Nat → Int32} {i x : Int32} (j : Nat) (hd : decode (mB M) pc = .ok (.baload, 1)) (ha : Has G h a (bI 1 n f)) (hi : i.toInt = (j : Int)) (hj : j < n) (hv : f j = x) (kk : V G d M (pc + 1) L (.int x :: st) h c Q) : V G d M pc L (.int i :: .ref a :: st) h c Q := by
  intro hG p e R s m args below meth cd Z hC hF H locs kc n' ls hR hl hkc hn hls
  obtain ⟨cell, c1, c2, c3, c4, c5, c6⟩ := has_int hG (gW hC) hR (by decide) ha
  obtain ⟨i1, i2⟩ := ix_ok hi hj
  subst hv
  exact W.bald hC.1 hC.2.1 c1 c4 c2 (by rw [c5]; exact i1) (by rw [i2]; exact c6 j hj) rfl rfl hd (kk hG p e R s m args below meth cd Z hC hF H locs kc n' ls hR hl hkc hn hls)
theorem r_laload {a n : Nat} {f : Nat → Int64} {i : Int32} {x : Int64} (j : Nat) (hd : decode (mB M) pc = .ok (.laload, 1)) (ha : Has G h a (bL n f)) (hi : i.toInt = (j : Int)) (hj : j < n) (hv : f j = x) (kk : V G d M (pc + 1) L (.long x :: st) h c Q) : V G d M pc L (.int i :: .ref a :: st) h c Q := by
  intro hG p e R s m args below meth cd Z hC hF H locs kc n' ls hR hl hkc hn hls
  obtain ⟨cell, c1, c2, c3, c4, c5, c6⟩ := has_lng hG (gW hC) hR ha
  obtain ⟨i1, i2⟩ := ix_ok hi hj
  subst hv
  exact W.lald hC.1 hC.2.1 c1 c4 c2 (by rw [c5]; exact i1) (by rw [i2]; exact c6 j hj) rfl rfl hd (kk hG p e R s m args below meth cd Z hC hF H locs kc n' ls hR hl hkc hn hls)
theorem r_aaloadv {a t n : Nat} {f : Nat → Option Nat} {i : Int32} {v : Value} (j : Nat) (ht : t = 3 ∨ t = 4) (hd : decode (mB M) pc = .ok (.aaload, 1)) (ha : Has G h a (bR t n f)) (hi : i.toInt = (j : Int)) (hj : j < n) (hv : va_rf (f j) = v) (kk : V G d M (pc + 1) L (v :: st) h c Q) : V G d M pc L (.int i :: .ref a :: st) h c Q := by
  intro hG p e R s m args below meth cd Z hC hF H locs kc n' ls hR hl hkc hn hls
  obtain ⟨cell, c1, c2, c3, c4, c5, c6⟩ := has_ref hG (gW hC) hR (by omega) ha
  obtain ⟨i1, i2⟩ := ix_ok hi hj
  subst hv
  exact W.aald hC.1 hC.2.1 c1 c4 (by rcases ht with rfl | rfl <;> rfl) c2 (by rw [c5]; exact i1) (by rw [i2]; exact c6 j hj) rfl rfl hd (kk hG p e R s m args below meth cd Z hC hF H locs kc n' ls hR hl hkc hn hls)
theorem r_aaload {a t n : Nat} {f : Nat → Option Nat} {i : Int32} {x : Nat} (j : Nat) (ht : t = 3 ∨ t = 4) (hd : decode (mB M) pc = .ok (.aaload, 1)) (ha : Has G h a (bR t n f)) (hi : i.toInt = (j : Int)) (hj : j < n) (hv : f j = some x) (kk : V G d M (pc + 1) L (.ref x :: st) h c Q) : V G d M pc L (.int i :: .ref a :: st) h c Q :=
  r_aaloadv j ht hd ha hi hj (by rw [hv]; rfl) kk
theorem r_iastore {a n : Nat} {f : Nat → Int32} {i x : Int32} (j : Nat) (hd : decode (mB M) pc = .ok (.iastore, 1)) (ha : h a = some (bI 0 n f)) (hi : i.toInt = (j : Int)) (hj : j < n) (kk : V G d M (pc + 1) L st (hu h a (bI 0 n (upd f j x))) c Q) : V G d M pc L (.int x :: .int i :: .ref a :: st) h c Q := by
  intro hG p e R s m args below meth cd Z hC hF H locs kc n' ls hR hl hkc hn hls
  obtain ⟨hge, -, hat⟩ := hR.2 a _ ha
  have hat : H[a]? = some (arrV (gA G 0) n (fun j => .int (f j))) := hat
  obtain ⟨i1, i2⟩ := ix_ok hi hj
  refine W.iast hC.1 hC.2.1 hat (gArr hG (gW hC) (t := 0) (by decide) n _) (fun h => by cases h) (by rw [arrV_size]; exact i1) rfl rfl hd fun H' e1 e2 e3 => ?_
  rw [i2] at e1 ⊢
  rw [arrV_store] at e1
  refine kk hG p e R s m args below meth cd Z hC hF H' _ kc n' ls (hR.put ha (b := bI 0 n (upd f j x)) (show H'[a]? = some (arrV (gA G 0) n (fun q => .int (upd f j x q))) from ?_) (Or.inl rfl) e2 e3) (fun q hq => by
    rcases List.mem_append.mp hq with h | h
    · exact hl q h
    · rw [List.mem_singleton.mp h]; exact hge) hkc hn hls
  rw [e1]
  congr 2
  funext q
  by_cases hq : q = j
  · subst hq
    simp [updV, upd]
  · simp [updV, upd, hq]
theorem r_bastore {a n : Nat} {f : Nat → Int32} {i x : Int32} (j : Nat) (hd : decode (mB M) pc = .ok (.bastore, 1)) (ha : h a = some (bI 1 n f)) (hi : i.toInt = (j : Int)) (hj : j < n) (kk : V G d M (pc + 1) L st (hu h a (bI 1 n (upd f j x.toInt8.toInt32))) c Q) : V G d M pc L (.int x :: .int i :: .ref a :: st) h c Q := by
  intro hG p e R s m args below meth cd Z hC hF H locs kc n' ls hR hl hkc hn hls
  obtain ⟨hge, hok, hat⟩ := hR.2 a _ ha
  have hat : H[a]? = some (arrV (gA G 1) n (fun j => .int (f j))) := hat
  have hok : sb_Fit f := by
    rcases hok with h | h
    · exact absurd h Nat.one_ne_zero
    · exact h.2
  obtain ⟨i1, i2⟩ := ix_ok hi hj
  refine W.bast hC.1 hC.2.1 hat (gArr hG (gW hC) (t := 1) (by decide) n _) (fun h => by cases h) (by rw [arrV_size]; exact i1) rfl rfl hd fun H' e1 e2 e3 => ?_
  rw [i2] at e1 ⊢
  rw [arrV_store] at e1
  refine kk hG p e R s m args below meth cd Z hC hF H' _ kc n' ls (hR.put ha (b := bI 1 n (upd f j x.toInt8.toInt32)) (show H'[a]? = some (arrV (gA G 1) n (fun q => .int (upd f j x.toInt8.toInt32 q))) from ?_) (Or.inr ⟨rfl, sb_fitU hok (pk_fb x)⟩) e2 e3) (fun q hq => by
    rcases List.mem_append.mp hq with h | h
    · exact hl q h
    · rw [List.mem_singleton.mp h]; exact hge) hkc hn hls
  rw [e1]
  congr 2
  funext q
  by_cases hq : q = j
  · subst hq
    simp [updV, upd, narrow_byte]
  · simp [updV, upd, hq]
theorem r_lastore {a n : Nat} {f : Nat → Int64} {i : Int32} {x : Int64} (j : Nat) (hd : decode (mB M) pc = .ok (.lastore, 1)) (ha : h a = some (bL n f)) (hi : i.toInt = (j : Int)) (hj : j < n) (kk : V G d M (pc + 1) L st (hu h a (bL n (vp_updL f j x))) c Q) : V G d M pc L (.long x :: .int i :: .ref a :: st) h c Q := by
  intro hG p e R s m args below meth cd Z hC hF H locs kc n' ls hR hl hkc hn hls
  obtain ⟨hge, -, hat⟩ := hR.2 a _ ha
  have hat : H[a]? = some (arrV (gA G 2) n (fun j => .long (f j))) := hat
  obtain ⟨i1, i2⟩ := ix_ok hi hj
  refine W.last hC.1 hC.2.1 hat (gArr hG (gW hC) (t := 2) (by decide) n _) (fun h => by cases h) (by rw [arrV_size]; exact i1) rfl rfl hd fun H' e1 e2 e3 => ?_
  rw [i2] at e1 ⊢
  rw [arrV_store] at e1
  refine kk hG p e R s m args below meth cd Z hC hF H' _ kc n' ls (hR.put ha (b := bL n (vp_updL f j x)) (show H'[a]? = some (arrV (gA G 2) n (fun q => .long (vp_updL f j x q))) from ?_) trivial e2 e3) (fun q hq => by
    rcases List.mem_append.mp hq with h | h
    · exact hl q h
    · rw [List.mem_singleton.mp h]; exact hge) hkc hn hls
  rw [e1]
  congr 2
  funext q
  by_cases hq : q = j
  · subst hq
    simp [updV, vp_updL]
  · simp [updV, vp_updL, hq]
/-- a reference to an object of ours, or to a String of the start, stored -/
theorem r_aastore {a t n v ci : Nat} {fs : List Value} {r : vw_C} {f : Nat → Option Nat} {i : Int32} (j : Nat) {E : String} (ht : t < 5) (hE : aT t = .object E) (hd : decode (mB M) pc = .ok (.aastore, 1)) (ha : h a = some (bR t n f)) (hv : Has G h v (bO ci fs)) (hr : kCl[ci]? = some r) (hca : r.1 = E ∨ lk (.castable r.1 E)) (hi : i.toInt = (j : Int)) (hj : j < n) (kk : V G d M (pc + 1) L st (hu h a (bR t n (va_up f j (some v)))) c Q) : V G d M pc L (.ref v :: .int i :: .ref a :: st) h c Q := by
  intro hG p e R s m args below meth cd Z hC hF H locs kc n' ls hR hl hkc hn hls
  obtain ⟨hge, -, hat⟩ := hR.2 a _ ha
  have hat : H[a]? = some (arrV (gA G t) n (fun j => va_rf (f j))) := hat
  obtain ⟨i1, i2⟩ := ix_ok hi hj
  obtain ⟨cv, r', c1, c2, c3, c4, c5, -⟩ := has_obj hR hv
  cases c4.symm.trans hr
  have hK := gK hG (gW hC)
  have hra := (hK.2 t _ (gTys_at G ht)).2
  rw [show ((gA G t, aT t) : ClassId × FieldType).2 = .object E from hE] at hra
  obtain ⟨kA, comp, k1, k2, k3, -⟩ := hra
  obtain ⟨kE, hkE, -⟩ := Vm.findClass_spec k3
  have hcls := (hK.1 ci _ hr).2
  have hasg : s.vm.assignable cv.cls comp = true := by
    rw [c5]
    rcases hca with e0 | hca
    · have h0 := hcls.1
      rw [e0] at h0
      cases h0.symm.trans k3
      exact va_assign hcls
    · obtain ⟨c0, t1, f1, f2, f3⟩ := Cond.castable_spec (wd hG (gW hC) hca args)
      cases hcls.1.symm.trans f1
      cases k3.symm.trans f2
      exact f3
  obtain ⟨kC, hkC, -⟩ := hcls.2
  refine W.aast hC.1 hC.2.1 hat (fun q h => by cases h) (fun h => by cases h) k1 k2 rfl hkE ⟨fun q => i1 (Or.inl q), by rw [arrV_size, i2]; exact hj⟩ c1 (fun q h => by rw [h] at c3; cases c3) (by rw [c5]; exact hkC) hasg rfl rfl hd fun H' e1 e2 e3 => ?_
  rw [i2] at e1 ⊢
  rw [arrV_store] at e1
  refine kk hG p e R s m args below meth cd Z hC hF H' _ kc n' ls (hR.put ha (b := bR t n (va_up f j (some v))) (show H'[a]? = some (arrV (gA G t) n (fun q => va_rf (va_up f j (some v) q))) from ?_) trivial e2 e3) (fun q hq => by
    rcases List.mem_append.mp hq with h | h
    · exact hl q h
    · rw [List.mem_singleton.mp h]; exact hge) hkc hn hls
  rw [e1]
  congr 2
  funext q
  by_cases hq : q = j
  · subst hq
    simp [updV, va_up, va_rf]
  · simp [updV, va_up, hq]
theorem r_aastoreN {a t n : Nat} {f : Nat → Option Nat} {i : Int32} (j : Nat) {E : String} (ht : t < 5) (hE : aT t = .object E) (hd : decode (mB M) pc = .ok (.aastore, 1)) (ha : h a = some (bR t n f)) (hi : i.toInt = (j : Int)) (hj : j < n) (kk : V G d M (pc + 1) L st (hu h a (bR t n (va_up f j none))) c Q) : V G d M pc L (.null :: .int i :: .ref a :: st) h c Q := by
  intro hG p e R s m args below meth cd Z hC hF H locs kc n' ls hR hl hkc hn hls
  obtain ⟨hge, -, hat⟩ := hR.2 a _ ha
  have hat : H[a]? = some (arrV (gA G t) n (fun j => va_rf (f j))) := hat
  obtain ⟨i1, i2⟩ := ix_ok hi hj
  refine va_WaastN (C := E) hC.1 hC.2.1 hat (by rw [← hE]; exact gArr hG (gW hC) ht n _) (fun h => by cases h) (by rw [arrV_size]; exact i1) rfl rfl hd fun H' e1 e2 e3 => ?_
  rw [i2] at e1 ⊢
  rw [arrV_store] at e1
  refine kk hG p e R s m args below meth cd Z hC hF H' _ kc n' ls (hR.put ha (b := bR t n (va_up f j none)) (show H'[a]? = some (arrV (gA G t) n (fun q => va_rf (va_up f j none q))) from ?_) trivial e2 e3) (fun q hq => by
    rcases List.mem_append.mp hq with h | h
    · exact hl q h
    · rw [List.mem_singleton.mp h]; exact hge) hkc hn hls
  rw [e1]
  congr 2
  funext q
  by_cases hq : q = j
  · subst hq
    simp [updV, va_up, va_rf]
  · simp [updV, va_up, hq]
theorem r_alenI {a t n : Nat} {f : Nat → Int32} (v : Int32) (ht : t < 5) (hd : decode (mB M) pc = .ok (.arraylength, 1)) (ha : Has G h a (bI t n f)) (hv : nI n = v) (kk : V G d M (pc + 1) L (.int v :: st) h c Q) : V G d M pc L (.ref a :: st) h c Q := by
  intro hG p e R s m args below meth cd Z hC hF H locs kc n' ls hR hl hkc hn hls
  obtain ⟨cell, c1, c2, c3, c4, c5, c6⟩ := has_int hG (gW hC) hR ht ha
  exact W.alen (n := v) hC.1 hC.2.1 c1 c4 (by rw [c5]; exact hv) rfl rfl hd (kk hG p e R s m args below meth cd Z hC hF H locs kc n' ls hR hl hkc hn hls)
theorem r_alenL {a n : Nat} {f : Nat → Int64} (v : Int32) (hd : decode (mB M) pc = .ok (.arraylength, 1)) (ha : Has G h a (bL n f)) (hv : nI n = v) (kk : V G d M (pc + 1) L (.int v :: st) h c Q) : V G d M pc L (.ref a :: st) h c Q := by
  intro hG p e R s m args below meth cd Z hC hF H locs kc n' ls hR hl hkc hn hls
  obtain ⟨cell, c1, c2, c3, c4, c5, c6⟩ := has_lng hG (gW hC) hR ha
  exact W.alen (n := v) hC.1 hC.2.1 c1 c4 (by rw [c5]; exact hv) rfl rfl hd (kk hG p e R s m args below meth cd Z hC hF H locs kc n' ls hR hl hkc hn hls)
theorem r_alenR {a t n : Nat} {f : Nat → Option Nat} (v : Int32) (ht : t < 5) (hd : decode (mB M) pc = .ok (.arraylength, 1)) (ha : Has G h a (bR t n f)) (hv : nI n = v) (kk : V G d M (pc + 1) L (.int v :: st) h c Q) : V G d M pc L (.ref a :: st) h c Q := by
  intro hG p e R s m args below meth cd Z hC hF H locs kc n' ls hR hl hkc hn hls
  obtain ⟨cell, c1, c2, c3, c4, c5, c6⟩ := has_ref hG (gW hC) hR ht ha
  exact W.alen (n := v) hC.1 hC.2.1 c1 c4 (by rw [c5]; exact hv) rfl rfl hd (kk hG p e R s m args below meth cd Z hC hF H locs kc n' ls hR hl hkc hn hls)
/-! making -/
theorem r_new {ix : Nat} (ci : Nat) {r : vw_C} (fs : List Value) (hd : decode (mB M) pc = .ok (.new ix, 3)) (hr : kCl[ci]? = some r) (hw : lk (.classLink (mN M).cls ix r.1)) (hins : lk (.instantiable r.1 r.2.2)) (hini : lk (.initialized r.1)) (hfs : ∀ j : Nat, j < r.2.2 → defaultValue (kty ci j) = vp_V fs j) (hc : 1 + r.2.2 ≤ c) (kk : ∀ q : Nat, h q = none → V G d M (pc + 3) L (.ref q :: st) (hu h q (bO ci fs)) (c - (1 + r.2.2)) Q) : V G d M pc L st h c Q := by
  intro hG p e R s m args below meth cd Z hC hF H locs kc n' ls hR hl hkc hn hls
  have hts := gLays hG (gW hC) hr args
  have hKn := (gK hG (gW hC)).1 ci _ hr
  refine W.newcK hC.1 hC.2.1 (gO hC) (wd hG (gW hC) hw args) (wd hG (gW hC) hins args) (wd hG (gW hC) hini args) rfl hd (by omega) (by omega) hKn.2.1 rfl fun H1 kC hkC e1 z1 o1 => ?_
  have hat : va_at (gC G, gI G) kCl (H.size, toE G (bO ci fs)) H1 := ⟨_, hr, (u_born (kty ci) hts (fun w h => h) hKn hkC e1 (kTy ci r hr)).to hfs⟩
  obtain ⟨hR1, hnone⟩ := hR.new hat trivial z1 o1
  exact kk H.size hnone hG p e R s m args below meth cd Z hC hF H1 locs _ _ ls hR1 hl (by omega) (by omega) hls
theorem new_fit0 : sb_Fit (fun _ => 0) := fun _ => rfl
theorem r_newaI {i : Int32} (N : Nat) (hd : decode (mB M) pc = .ok (.newarray .int, 2)) (hw : lk (.arrayClass .int)) (hi : i.toInt = (N : Int)) (hN : N ≤ 100000) (hc : 1 + N ≤ c) (kk : ∀ q : Nat, h q = none → V G d M (pc + 2) L (.ref q :: st) (hu h q (bI 0 N (fun _ => 0))) (c - (1 + N)) Q) : V G d M pc L (.int i :: st) h c Q := by
  intro hG p e R s m args below meth cd Z hC hF H locs kc n' ls hR hl hkc hn hls
  obtain ⟨i1, i2⟩ := ix_ok (n := N + 1) hi (Nat.lt_succ_self N)
  refine va_newaK (atype := .int) (N := N) hC.1 hC.2.1 (wd hG (gW hC) hw args) rfl hd rfl (fun q => i1 (Or.inl q)) i2 (Nat.le_trans (Nat.mul_le_mul_right _ hN) (Nat.le_of_ble_eq_true rfl)) (by omega) (by omega) rfl fun H1 cA e1 z1 o1 hAr hNm => ?_
  have hra : va_RA s (gA G 0) .int := ((gK hG (gW hC)).2 0 _ (gTys_at G (by decide))).2
  have hra : s.vm.findClass ("[" ++ FieldType.int.toString) = some (gA G 0) := hra
  have hNm : s.vm.findClass ("[" ++ FieldType.int.toString) = some cA := hNm
  have eA : cA = gA G 0 := Option.some.inj (hNm.symm.trans hra)
  subst eA
  obtain ⟨hR1, hnone⟩ := hR.new (b := bI 0 N (fun _ => 0)) (H' := H1) e1 (Or.inl rfl) z1 o1
  exact kk H.size hnone hG p e R s m args below meth cd Z hC hF H1 locs _ _ ls hR1 hl (by omega) (by omega) hls
theorem r_newaB {i : Int32} (N : Nat) (hd : decode (mB M) pc = .ok (.newarray .byte, 2)) (hw : lk (.arrayClass .byte)) (hi : i.toInt = (N : Int)) (hN : N ≤ 100000) (hc : 1 + N ≤ c) (kk : ∀ q : Nat, h q = none → V G d M (pc + 2) L (.ref q :: st) (hu h q (bI 1 N (fun _ => 0))) (c - (1 + N)) Q) : V G d M pc L (.int i :: st) h c Q := by
  intro hG p e R s m args below meth cd Z hC hF H locs kc n' ls hR hl hkc hn hls
  obtain ⟨i1, i2⟩ := ix_ok (n := N + 1) hi (Nat.lt_succ_self N)
  refine va_newaK (atype := .byte) (N := N) hC.1 hC.2.1 (wd hG (gW hC) hw args) rfl hd rfl (fun q => i1 (Or.inl q)) i2 (Nat.le_trans (Nat.mul_le_mul_right _ hN) (Nat.le_of_ble_eq_true rfl)) (by omega) (by omega) rfl fun H1 cA e1 z1 o1 hAr hNm => ?_
  have hra : va_RA s (gA G 1) .byte := ((gK hG (gW hC)).2 1 _ (gTys_at G (by decide))).2
  have hra : s.vm.findClass ("[" ++ FieldType.byte.toString) = some (gA G 1) := hra
  have hNm : s.vm.findClass ("[" ++ FieldType.byte.toString) = some cA := hNm
  have eA : cA = gA G 1 := Option.some.inj (hNm.symm.trans hra)
  subst eA
  obtain ⟨hR1, hnone⟩ := hR.new (b := bI 1 N (fun _ => 0)) (H' := H1) e1 (Or.inr ⟨rfl, new_fit0⟩) z1 o1
  exact kk H.size hnone hG p e R s m args below meth cd Z hC hF H1 locs _ _ ls hR1 hl (by omega) (by omega) hls
theorem r_newaL {i : Int32} (N : Nat) (hd : decode (mB M) pc = .ok (.newarray .long, 2)) (hw : lk (.arrayClass .long)) (hi : i.toInt = (N : Int)) (hN : N ≤ 100000) (hc : 1 + N ≤ c) (kk : ∀ q : Nat, h q = none → V G d M (pc + 2) L (.ref q :: st) (hu h q (bL N (fun _ => 0))) (c - (1 + N)) Q) : V G d M pc L (.int i :: st) h c Q := by
  intro hG p e R s m args below meth cd Z hC hF H locs kc n' ls hR hl hkc hn hls
  obtain ⟨i1, i2⟩ := ix_ok (n := N + 1) hi (Nat.lt_succ_self N)
  refine va_newaK (atype := .long) (N := N) hC.1 hC.2.1 (wd hG (gW hC) hw args) rfl hd rfl (fun q => i1 (Or.inl q)) i2 (Nat.le_trans (Nat.mul_le_mul_right _ hN) (Nat.le_of_ble_eq_true rfl)) (by omega) (by omega) rfl fun H1 cA e1 z1 o1 hAr hNm => ?_
  have hra : va_RA s (gA G 2) .long := ((gK hG (gW hC)).2 2 _ (gTys_at G (by decide))).2
  have hra : s.vm.findClass ("[" ++ FieldType.long.toString) = some (gA G 2) := hra
  have hNm : s.vm.findClass ("[" ++ FieldType.long.toString) = some cA := hNm
  have eA : cA = gA G 2 := Option.some.inj (hNm.symm.trans hra)
  subst eA
  obtain ⟨hR1, hnone⟩ := hR.new (b := bL N (fun _ => 0)) (H' := H1) e1 trivial z1 o1
  exact kk H.size hnone hG p e R s m args below meth cd Z hC hF H1 locs _ _ ls hR1 hl (by omega) (by omega) hls
theorem r_newaR {ix t : Nat} {E : String} {i : Int32} (N : Nat) (ht : t < 5) (hE : aT t = .object E) (hd : decode (mB M) pc = .ok (.anewarray ix, 3)) (hw : lk (.classLink (mN M).cls ix E)) (ho : lk (.arrayOver (.object E))) (hi : i.toInt = (N : Int)) (hN : N ≤ 100000) (hc : 1 + N ≤ c) (kk : ∀ q : Nat, h q = none → V G d M (pc + 3) L (.ref q :: st) (hu h q (bR t N (fun _ => none))) (c - (1 + N)) Q) : V G d M pc L (.int i :: st) h c Q := by
  intro hG p e R s m args below meth cd Z hC hF H locs kc n' ls hR hl hkc hn hls
  obtain ⟨i1, i2⟩ := ix_ok (n := N + 1) hi (Nat.lt_succ_self N)
  refine W.anew hC.1 hC.2.1 (gO hC) (wd hG (gW hC) hw args) (wd hG (gW hC) ho args) rfl hd rfl (fun q => i1 (Or.inl q)) (by rw [i2]; omega) (by omega) (by rw [i2]; omega) fun cA kA comp f1 f2 f3 f4 => ?_
  rw [i2]
  generalize hH1 : H.push ({ cls := cA, slots := Array.replicate N .null, vm := .none } : Cell) = H1
  have z1 : H1.size = H.size + 1 := by rw [← hH1, Array.size_push]
  have e1 : H1[H.size]? = some (arrV cA N (fun _ => .null)) := by rw [← hH1, Array.getElem?_push_size, ← arrV_new]
  have o1 : ∀ q : Nat, q < H.size → H1[q]? = H[q]? := fun q hq => by rw [← hH1, Array.getElem?_push, if_neg (Nat.ne_of_lt hq)]
  have hra := ((gK hG (gW hC)).2 t _ (gTys_at G ht)).2
  rw [show ((gA G t, aT t) : ClassId × FieldType).2 = .object E from hE] at hra
  obtain ⟨kA', comp', k1, k2, k3, k4⟩ := hra
  cases f1.symm.trans k4
  obtain ⟨hR1, hnone⟩ := hR.new (b := bR t N (fun _ => none)) (H' := H1) e1 trivial z1 o1
  exact kk H.size hnone hG p e R s m args below meth cd Z hC hF H1 locs _ _ ls hR1 hl (by omega) (by omega) hls
end VB
