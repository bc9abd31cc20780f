set_option maxRecDepth 100000
def imax (x y : Int32) : Int32 := if x < y then y else x
def imin (x y : Int32) : Int32 := if y < x then y else x
def iabs (x : Int32) : Int32 := if 0 ≤ x then x else 0 - x
/-! small helps of the walks -/
theorem hu_hu {h : HP} {a : Nat} {b b' : Bd} : hu (hu h a b) a b' = hu h a b' := by
  funext q
  unfold hu
  by_cases e : q = a
  · rw [if_pos e, if_pos e]
  · rw [if_neg e, if_neg e, if_neg e]
/-- a method that never throws: what it answers, and the heap behind it -/
def rQ (P : Option Value → HP → Prop) : Oc → HP → Prop := fun o h' => match o with
  | .inl v => P v h'
  | .inr _ => False
def eQ (v : Option Value) (h1 : HP) : Oc → HP → Prop := rQ (fun v' h' => v' = v ∧ h' = h1)
section VK
variable {G : GG} {d : Nat} {M : Mt} {pc : Nat} {L : List (Nat × Value)} {st rest : List Value} {h : HP} {c : Nat} {Q : Oc → HP → Prop}
theorem kr_e {pc2 : Nat} {v : Option Value} {h1 : HP} (k : V G d M pc2 L (v.toList ++ rest) h1 c Q) : ∀ (v' : Option Value) (h' : HP), eQ v h1 (.inl v') h' → V G d M pc2 L (v'.toList ++ rest) h' c Q := by
  rintro _ _ ⟨rfl, rfl⟩
  exact k
theorem kx_e {v : Option Value} {h1 : HP} : ∀ (q : Nat) (h' : HP) (ci : Nat) (fs : List Value), eQ v h1 (.inr q) h' → h' q = some (bO ci fs) → VX G d M pc L h' c q Q := fun _ _ _ _ hq => hq.elim
theorem kr_r {pc2 : Nat} {P : Option Value → HP → Prop} (k : ∀ (v' : Option Value) (h' : HP), P v' h' → V G d M pc2 L (v'.toList ++ rest) h' c Q) : ∀ (v' : Option Value) (h' : HP), rQ P (.inl v') h' → V G d M pc2 L (v'.toList ++ rest) h' c Q := k
theorem kx_r {P : Option Value → HP → Prop} : ∀ (q : Nat) (h' : HP) (ci : Nat) (fs : List Value), rQ P (.inr q) h' → h' q = some (bO ci fs) → VX G d M pc L h' c q Q := fun _ _ _ _ hq => hq.elim
theorem r_put {ix : Nat} (ci k : Nat) {r : vw_C} {ref : String} {fs fs' : List Value} {v : Value} {a : Nat} {h' : HP} (hd : decode (mB M) pc = .ok (.putfield ix, 3)) (hr : kCl[ci]? = some r) (hk : k < r.2.2) (hw : lk (.fieldLink (mN M).cls ix ref (r.2.1 k).2.1 (r.2.1 k).2.2.1)) (hs : fSame ref (r.2.1 k)) (hfin : (r.2.1 k).2.2.2 = false) (ha : h a = some (bO ci fs)) (hfs : fs.set k v = fs') (hl9 : k < fs.length) (hnv : narrow (kty ci k) v = v) (hfit : fits (kty ci k) v = true) (hh : hu h a (bO ci fs') = h') (kk : V G d M (pc + 3) L st h' c Q) : V G d M pc L (v :: .ref a :: st) h c Q := by
  subst hfs
  subst hh
  exact r_putfield ci k hd hr hk hw hs hfin ha hl9 hnv hfit kk
theorem r_putN {ix : Nat} (ci k : Nat) {r : vw_C} {ref host : String} {fs fs' : List Value} {v : Value} {a : Nat} {h' : HP} (hd : decode (mB M) pc = .ok (.putfield ix, 3)) (hr : kCl[ci]? = some r) (hk : k < r.2.2) (hw : lk (.fieldLinkNest (mN M).cls ix ref (r.2.1 k).2.1 (r.2.1 k).2.2.1 host)) (hs : fSame ref (r.2.1 k)) (hfin : (r.2.1 k).2.2.2 = false) (ha : h a = some (bO ci fs)) (hfs : fs.set k v = fs') (hl9 : k < fs.length) (hnv : narrow (kty ci k) v = v) (hfit : fits (kty ci k) v = true) (hh : hu h a (bO ci fs') = h') (kk : V G d M (pc + 3) L st h' c Q) : V G d M pc L (v :: .ref a :: st) h c Q := by
  subst hfs
  subst hh
  exact r_putfieldN ci k hd hr hk hw hs hfin ha hl9 hnv hfit kk
theorem r_putF {ix : Nat} (ci k : Nat) {r : vw_C} {fs fs' : List Value} {v : Value} {a : Nat} {h' : HP} (hd : decode (mB M) pc = .ok (.putfield ix, 3)) (hr : kCl[ci]? = some r) (hk : k < r.2.2) (hw : lk (.fieldLink (mN M).cls ix (r.2.1 k).1 (r.2.1 k).2.1 (r.2.1 k).2.2.1)) (hfin : (r.2.1 k).2.2.2 = true) (hin : (mN M).name = "<init>") (hdecl : (r.2.1 k).1 = (mN M).cls) (ha : h a = some (bO ci fs)) (hfs : fs.set k v = fs') (hl9 : k < fs.length) (hnv : narrow (kty ci k) v = v) (hfit : fits (kty ci k) v = true) (hh : hu h a (bO ci fs') = h') (kk : V G d M (pc + 3) L st h' c Q) : V G d M pc L (v :: .ref a :: st) h c Q := by
  subst hfs
  subst hh
  exact r_putfieldF ci k hd hr hk hw hfin hin hdecl ha hl9 hnv hfit kk
theorem r_inc {j : Nat} {n : Int} {x : Int32} (w : Int32) (hd : decode (mB M) pc = .ok (.iinc j n, 3)) (hv : lvg L j = some (.int x)) (hw : Int32.ofInt n = w) (hn : j < mL M) (kk : V G d M (pc + 3) (lvs L j (.int (x + w))) st h c Q) : V G d M pc L st h c Q := r_iinc (x + w) hd hv (by rw [hw]) hn kk
theorem V_stk {st' : List Value} (e : st' = st) (k : V G d M pc L st h c Q) : V G d M pc L st' h c Q := by rw [e]; exact k
def lvall (L : List (Nat × Value)) : List (Nat × Value) → Prop
  | [] => True
  | q :: l => lvg L q.1 = some q.2 ∧ lvall L l
theorem lvall_mem {L : List (Nat × Value)} : ∀ {l : List (Nat × Value)}, lvall L l → ∀ q ∈ l, q ∈ L
  | [], _, _, h => by cases h
  | q :: l, h, x, hx => by
    rcases List.mem_cons.mp hx with rfl | hx
    · exact lvg_mem h.1
    · exact lvall_mem h.2 x hx
theorem V_loc {L' : List (Nat × Value)} (hL : lvall L L') (hV : V G d M pc L' st h c Q) : V G d M pc L st h c Q := V.loc (lvall_mem hL) hV
theorem V_heap {h' : HP} (e : h = h') (k : V G d M pc L st h' c Q) : V G d M pc L st h c Q := by rw [e]; exact k
theorem nar_rf {t : FieldType} (h : isRfT t = true) (x : Option Nat) : narrow t (va_rf x) = va_rf x := by
  cases x <;> cases t <;> first | rfl | cases h
theorem fit_rf {t : FieldType} (h : isRfT t = true) (x : Option Nat) : fits t (va_rf x) = true := by
  cases x <;> cases t <;> first | rfl | cases h
theorem r_mmax {ix : Nat} {x y : Int32} (hd : decode (mB M) pc = .ok (.invokestatic ix, 3)) (hw : lk (.methodLink (mN M).cls ix Lib.Math.max.name)) (hs : lk (.static Lib.Math.max.name)) (hini : lk (.initialized "java/lang/Math")) (hcode : lk (.code Lib.Math.max.name Lib.Math.max.code 2 (some .int))) (hdd : 1 ≤ d) (hcat : (st.map fun v => v.category).sum ≤ 8) (kk : V G d M (pc + 3) L (.int (imax x y) :: st) h c Q) : V G d M pc L (.int y :: .int x :: st) h c Q := by
  intro hG p e R s m args below meth cd Z hC hF H locs k n ls hR hl hk hn hls
  have hW := gW hC
  have hf := hC.2.2.2.2.2.2.2.2.2
  exact va_mmax hC.1 hC.2.1 (hC.2.2.2.2.1.trans hls.1.symm) (gO hC) (wd hG hW hw args) (wd hG hW hs args) (wd hG hW hini args) (wd hG hW hcode args) (by omega) (by omega) (by omega) (by omega) hd (kk hG p e R s m args below meth cd Z hC hF H locs k n ls hR hl hk hn hls)
theorem r_mmin {ix : Nat} {x y : Int32} (hd : decode (mB M) pc = .ok (.invokestatic ix, 3)) (hw : lk (.methodLink (mN M).cls ix Lib.Math.min.name)) (hs : lk (.static Lib.Math.min.name)) (hini : lk (.initialized "java/lang/Math")) (hcode : lk (.code Lib.Math.min.name Lib.Math.min.code 2 (some .int))) (hdd : 1 ≤ d) (hcat : (st.map fun v => v.category).sum ≤ 8) (kk : V G d M (pc + 3) L (.int (imin x y) :: st) h c Q) : V G d M pc L (.int y :: .int x :: st) h c Q := by
  intro hG p e R s m args below meth cd Z hC hF H locs k n ls hR hl hk hn hls
  have hW := gW hC
  have hf := hC.2.2.2.2.2.2.2.2.2
  exact va_mmin hC.1 hC.2.1 (hC.2.2.2.2.1.trans hls.1.symm) (gO hC) (wd hG hW hw args) (wd hG hW hs args) (wd hG hW hini args) (wd hG hW hcode args) (by omega) (by omega) (by omega) (by omega) hd (kk hG p e R s m args below meth cd Z hC hF H locs k n ls hR hl hk hn hls)
theorem r_mabs {ix : Nat} {x : Int32} (hd : decode (mB M) pc = .ok (.invokestatic ix, 3)) (hw : lk (.methodLink (mN M).cls ix Lib.Math.abs.name)) (hs : lk (.static Lib.Math.abs.name)) (hini : lk (.initialized "java/lang/Math")) (hcode : lk (.code Lib.Math.abs.name Lib.Math.abs.code 1 (some .int))) (hdd : 1 ≤ d) (hcat : (st.map fun v => v.category).sum ≤ 8) (kk : V G d M (pc + 3) L (.int (iabs x) :: st) h c Q) : V G d M pc L (.int x :: st) h c Q := by
  intro hG p e R s m args below meth cd Z hC hF H locs k n ls hR hl hk hn hls
  have hW := gW hC
  have hf := hC.2.2.2.2.2.2.2.2.2
  exact va_mabs hC.1 hC.2.1 (hC.2.2.2.2.1.trans hls.1.symm) (gO hC) (wd hG hW hw args) (wd hG hW hs args) (wd hG hW hini args) (wd hG hW hcode args) (by omega) (by omega) (by omega) (by omega) hd (kk hG p e R s m args below meth cd Z hC hF H locs k n ls hR hl hk hn hls)
end VK
