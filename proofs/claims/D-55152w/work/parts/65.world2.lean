set_option maxRecDepth 100000
/-- orders done in turn -/
def dL : List Ord1 → (Nat → Int32) → Nat → Nat × Option (Nat → Int32)
  | [], w, n => (n, some w)
  | a :: os, w, n => match dO w a with
    | .inl _ => (n, none)
    | .inr (.inl _) => (n, none)
    | .inr (.inr b) => dL os b.2 (n + 1)
def dR (b : Nat × Option (Nat → Int32)) : OpR := match b.2 with
  | none => oR 14 (nI b.1)
  | some w' => oK (nI b.1) w'
/-- what run answers -/
def rnR (w : Nat → Int32) (T : List Int32) : OpR := match (pR T (T.length + 1) 0).2 with
  | none => oC (-1000 - nI (pR T (T.length + 1) 0).1)
  | some os => dR (dL os w 0)
theorem dL_k {w w' : Nat → Int32} {a : Ord1} {os : List Ord1} {n : Nat} {x : Int32} (h : dO w a = oK x w') : dL (a :: os) w n = dL os w' (n + 1) := by
  show (match dO w a with
    | .inl _ => (n, none)
    | .inr (.inl _) => (n, none)
    | .inr (.inr b) => dL os b.2 (n + 1)) = _
  rw [h]
theorem dL_n {w : Nat → Int32} {a : Ord1} {os : List Ord1} {n : Nat} (h : ∀ x w', dO w a ≠ oK x w') : dL (a :: os) w n = (n, none) := by
  show (match dO w a with
    | .inl _ => (n, none)
    | .inr (.inl _) => (n, none)
    | .inr (.inr b) => dL os b.2 (n + 1)) = _
  cases e : dO w a with
  | inl c => rfl
  | inr e2 =>
    cases e2 with
    | inl c => rfl
    | inr b => exact absurd e (h b.1 b.2)
theorem rn_n {w : Nat → Int32} {T : List Int32} (h : (pR T (T.length + 1) 0).2 = none) : rnR w T = oC (-1000 - nI (pR T (T.length + 1) 0).1) := by
  unfold rnR
  rw [h]
theorem rn_s {w : Nat → Int32} {T : List Int32} {os : List Ord1} (h : (pR T (T.length + 1) 0).2 = some os) : rnR w T = dR (dL os w 0) := by
  unfold rnR
  rw [h]
theorem pb_some {α β : Type} {x : Nat × Option α} {f : Nat → α → Nat × Option β} {b : β} (h : (pb x f).2 = some b) : ∃ a, x.2 = some a ∧ (f x.1 a).2 = some b := by
  cases e : x.2 with
  | none => rw [pb_n e] at h; cases h
  | some a => rw [pb_s e] at h; exact ⟨a, rfl, h⟩
theorem pA_7 {T : List Int32} {k p : Nat} {a : Ord1} (h : (pA T k p).2 = some a) : a.1 < 7 := by
  match k, h with
  | 0, h =>
    obtain ⟨x, -, h⟩ := pb_some (pA_0 ▸ h)
    obtain ⟨y, -, h⟩ := pb_some h
    rw [← Option.some.inj h]; show 0 < 7; decide
  | 1, h =>
    obtain ⟨x, -, h⟩ := pb_some (pA_1 ▸ h)
    obtain ⟨y, -, h⟩ := pb_some h
    obtain ⟨z, -, h⟩ := pb_some h
    rw [← Option.some.inj h]; show 1 < 7; decide
  | 2, h =>
    obtain ⟨x, -, h⟩ := pb_some (pA_2 ▸ h)
    rw [← Option.some.inj h]; show 2 < 7; decide
  | 3, h =>
    obtain ⟨x, -, h⟩ := pb_some (pA_3 ▸ h)
    obtain ⟨y, -, h⟩ := pb_some h
    obtain ⟨z, -, h⟩ := pb_some h
    rw [← Option.some.inj h]; show 3 < 7; decide
  | 4, h =>
    obtain ⟨x, -, h⟩ := pb_some (pA_4 ▸ h)
    rw [← Option.some.inj h]; show 4 < 7; decide
  | 5, h =>
    obtain ⟨x, -, h⟩ := pb_some (pA_5 ▸ h)
    rw [← Option.some.inj h]; show 5 < 7; decide
  | n + 6, h =>
    have h : some ((6, 0, 0, 0) : Ord1) = some a := h
    rw [← Option.some.inj h]; show 6 < 7; decide
theorem pR_7 {T : List Int32} : ∀ (n p : Nat) (os : List Ord1), (pR T n p).2 = some os → os.length ≤ n ∧ ∀ (i : Nat) (a : Ord1), os[i]? = some a → a.1 < 7 := by
  intro n
  induction n with
  | zero => intro p os h; cases h
  | succ n ih =>
    intro p os h
    rw [pR_s] at h
    obtain ⟨a, h1, h2⟩ := pb_some h
    obtain ⟨os2, h3, h4⟩ := pb_some h2
    have h5 : some (a :: os2) = some os := h4
    rw [← Option.some.inj h5]
    have a7 : a.1 < 7 := by
      obtain ⟨k, h6, h7⟩ := pb_some h1
      exact pA_7 h7
    have key : os2.length ≤ n ∧ ∀ (i : Nat) (a : Ord1), os2[i]? = some a → a.1 < 7 := by
      unfold pT at h3
      by_cases e : hereT T (pO T p).1 = 59
      · rw [if_pos e] at h3; exact ih _ _ h3
      · rw [if_neg e] at h3
        by_cases e2 : (pO T p).1 = T.length
        · rw [if_pos e2] at h3
          have h8 : some ([] : List Ord1) = some os2 := h3
          rw [← Option.some.inj h8]
          exact ⟨Nat.zero_le _, fun i a hi => by cases hi⟩
        · rw [if_neg e2] at h3; cases h3
    refine ⟨by show os2.length + 1 ≤ n + 1; omega, fun i b hi => ?_⟩
    match i, hi with
    | 0, hi => rw [← Option.some.inj hi]; exact a7
    | i + 1, hi => exact key.2 i b hi
/-! ### what every state is, place by place -/
def sbd (k : Nat) : Int × Int := match k with
  | 0 => (0, 9)
  | 1 => (0, 19)
  | 2 => (0, 100)
  | 3 => (0, 12)
  | 4 => (0, 12)
  | 5 => (0, 12)
  | _ => (-2147483648, 2147483647)
def hbd (k : Nat) : Int × Int := match k with
  | 0 => (0, 9)
  | 1 => (0, 10)
  | 2 => (-2147483648, 2147483647)
  | 3 => (0, 7)
  | _ => (-2147483648, 2147483647)
def lbd (k : Nat) : Int × Int := match k with
  | 0 => (0, 3)
  | 1 => (0, 19)
  | 2 => (0, 2)
  | 3 => (0, 4)
  | 4 => (0, 20)
  | 5 => (-2147483648, 2147483647)
  | _ => (0, 1)
def bnd (D : Int) (j : Nat) : Int × Int := if j = 0 then (0, D) else if j = 1 then (0, 480) else if j = 2 then (0, 4) else if j = 3 then (0, 40) else if j < 14 then (-2147483648, 2147483647) else if j < 17 then (0, 200) else if j < 53 then sbd ((j - 17) % 9) else if j < 133 then hbd ((j - 53) % 4) else if j < 413 then lbd ((j - 133) % 7) else (-2147483648, 2147483647)
def Box (D : Int) (w : Nat → Int32) : Prop := ∀ j, (bnd D j).1 ≤ (w j).toInt ∧ (w j).toInt ≤ (bnd D j).2
def SaleOK (w : Nat → Int32) : Prop := ∀ i : Nat, (i : Int) < (w 3).toInt → (w (133 + 7 * i)).toInt < (w 2).toInt ∧ 1 ≤ (w (133 + 7 * i + 4)).toInt
def sN (w : Nat → Int32) : Nat → Int32
  | 0 => 0
  | n + 1 => sN w n + w (133 + 7 * n + 3)
def sK (w : Nat → Int32) : Nat → Int32
  | 0 => 0
  | n + 1 => sK w n + (if w (133 + 7 * n + 6) = 1 then w (133 + 7 * n + 3) else 0)
def SV (w : Nat → Int32) : Prop := sN w (tn (w 3)) = w 6 ∧ sK w (tn (w 3)) = w 7
def IV (D : Int) (w : Nat → Int32) : Prop := Box D w ∧ SaleOK w ∧ Bal w ∧ SV w
theorem bnd_s {D : Int} {s k : Nat} (hs : s < 4) (hk : k < 9) : bnd D (17 + 9 * s + k) = sbd k := by
  unfold bnd
  rw [if_neg (by omega), if_neg (by omega), if_neg (by omega), if_neg (by omega), if_neg (by omega), if_neg (by omega), if_pos (by omega), show (17 + 9 * s + k - 17) % 9 = k by omega]
theorem bnd_h {D : Int} {h k : Nat} (hh : h < 20) (hk : k < 4) : bnd D (53 + 4 * h + k) = hbd k := by
  unfold bnd
  rw [if_neg (by omega), if_neg (by omega), if_neg (by omega), if_neg (by omega), if_neg (by omega), if_neg (by omega), if_neg (by omega), if_pos (by omega), show (53 + 4 * h + k - 53) % 4 = k by omega]
theorem bnd_l {D : Int} {i k : Nat} (hi : i < 40) (hk : k < 7) : bnd D (133 + 7 * i + k) = lbd k := by
  unfold bnd
  rw [if_neg (by omega), if_neg (by omega), if_neg (by omega), if_neg (by omega), if_neg (by omega), if_neg (by omega), if_neg (by omega), if_neg (by omega), if_pos (by omega), show (133 + 7 * i + k - 133) % 7 = k by omega]
theorem bnd_d {D : Int} {b : Nat} (hb : b < 3) : bnd D (14 + b) = (0, 200) := by
  unfold bnd
  rw [if_neg (by omega), if_neg (by omega), if_neg (by omega), if_neg (by omega), if_neg (by omega), if_pos (by omega)]
theorem bx_s {D : Int} {w : Nat → Int32} (hB : Box D w) {s k : Nat} (hs : s < 4) (hk : k < 9) : (sbd k).1 ≤ (w (17 + 9 * s + k)).toInt ∧ (w (17 + 9 * s + k)).toInt ≤ (sbd k).2 := by
  have := hB (17 + 9 * s + k)
  rw [bnd_s hs hk] at this
  exact this
theorem bx_h {D : Int} {w : Nat → Int32} (hB : Box D w) {h k : Nat} (hh : h < 20) (hk : k < 4) : (hbd k).1 ≤ (w (53 + 4 * h + k)).toInt ∧ (w (53 + 4 * h + k)).toInt ≤ (hbd k).2 := by
  have := hB (53 + 4 * h + k)
  rw [bnd_h hh hk] at this
  exact this
theorem bx_l {D : Int} {w : Nat → Int32} (hB : Box D w) {i k : Nat} (hi : i < 40) (hk : k < 7) : (lbd k).1 ≤ (w (133 + 7 * i + k)).toInt ∧ (w (133 + 7 * i + k)).toInt ≤ (lbd k).2 := by
  have := hB (133 + 7 * i + k)
  rw [bnd_l hi hk] at this
  exact this
theorem bx_d {D : Int} {w : Nat → Int32} (hB : Box D w) {b : Nat} (hb : b < 3) : 0 ≤ (w (14 + b)).toInt ∧ (w (14 + b)).toInt ≤ 200 := by
  have := hB (14 + b)
  rw [bnd_d hb] at this
  exact this
theorem IV_inv {D : Int} {w : Nat → Int32} (hV : IV D w) : Inv D w := by
  obtain ⟨hB, hS, -, -⟩ := hV
  have h2 : 0 ≤ (w 2).toInt ∧ (w 2).toInt ≤ 4 := hB 2
  have h3 : 0 ≤ (w 3).toInt ∧ (w 3).toInt ≤ 40 := hB 3
  refine ⟨hB 0, hB 1, h2, h3, fun b hb => bx_d hB hb, fun s hs => ⟨bx_s hB (k := 0) (by omega) (by omega), bx_s hB (k := 1) (by omega) (by omega), bx_s hB (k := 2) (by omega) (by omega), fun b hb => ?_⟩, fun h hh => ⟨bx_h hB (k := 0) hh (by omega), bx_h hB (k := 1) hh (by omega), bx_h hB (k := 3) hh (by omega)⟩, fun i hi => ⟨⟨(bx_l hB (k := 0) (by omega) (by omega)).1, (hS i hi).1⟩, bx_l hB (k := 1) (by omega) (by omega), bx_l hB (k := 2) (by omega) (by omega), bx_l hB (k := 3) (by omega) (by omega), ⟨(hS i hi).2, (bx_l hB (k := 4) (by omega) (by omega)).2⟩, ?_⟩⟩
  · rcases (show b = 0 ∨ b = 1 ∨ b = 2 by omega) with rfl | rfl | rfl
    · exact bx_s hB (k := 3) (by omega) (by omega)
    · exact bx_s hB (k := 4) (by omega) (by omega)
    · exact bx_s hB (k := 5) (by omega) (by omega)
  · have h6 : 0 ≤ (w (133 + 7 * i + 6)).toInt ∧ (w (133 + 7 * i + 6)).toInt ≤ 1 := bx_l hB (k := 6) (by omega) (by omega)
    have e0 : (0 : Int32).toInt = 0 := rfl
    have e1 : (1 : Int32).toInt = 1 := rfl
    rcases (show (w (133 + 7 * i + 6)).toInt = 0 ∨ (w (133 + 7 * i + 6)).toInt = 1 by omega) with e | e
    · exact Or.inl (i32_eq.mpr (by rw [e0]; exact e))
    · exact Or.inr (i32_eq.mpr (by rw [e1]; exact e))
/-- what the plain law gives of an order: the state stays good, the answer is none of the codes -/
def PI : Prop := ∀ (D : Int) (w : Nat → Int32) (a : Ord1) (x : Int32) (w' : Nat → Int32), D < 100000 → IV D w → dO w a = oK x w' → IV (D + 1) w' ∧ 0 ≤ x.toInt
/-! ### the world -/
def ruQ (X D R hd u : Nat) (aS : Nat → Nat → Nat) (wS : Nat → Nat → Int32) (sv : Bool) (rs dt : Int32) (tx la : Nat) (h : HP) (r N : Nat) (res : OpR) : Oc → HP → Prop := rQ (fun v h' => v = some (.int (ansV res)) ∧ SB h' tx r N [] ∧ ∃ (hd' u' : Nat) (aS' : Nat → Nat → Nat) (wS' : Nat → Nat → Int32) (rs' dt' : Int32), CO X D R hd' u' aS' sv rs' dt' tx la h' ∧ CS aS' wS' u' sv h' ∧ (∀ (q : Nat) (b : Bd), q ≠ X → q ≠ D → q ≠ R → q ≠ tx → frS aS wS u sv q → h q = some b → h' q = some b ∧ frS aS' wS' u' sv q) ∧ resR res wS u rs dt wS' u' rs' dt')
theorem CO_tx {X D R hd u tx2 : Nat} {aS : Nat → Nat → Nat} {sv : Bool} {rs dt : Int32} {tx la : Nat} {h h' : HP} {fs : List Value} (hO : CO X D R hd u aS sv rs dt tx la h) (ht : h tx2 = some (bO 14 fs)) (hf : ∀ q b, q ≠ tx2 → h q = some b → h' q = some b) : CO X D R hd u aS sv rs dt tx la h' := ⟨hf _ _ (kd_ne hO.1 ht (show 0 ≠ 14 by decide)) hO.1, hf _ _ (kd_ne hO.2.1 ht (show 13 ≠ 14 by decide)) hO.2.1, hf _ _ (kd_ne hO.2.2.1 ht (show 1017 ≠ 14 by decide)) hO.2.2.1, hO.2.2.2⟩
theorem CS_tx {tx2 : Nat} {aS : Nat → Nat → Nat} {wS : Nat → Nat → Int32} {u : Nat} {sv : Bool} {h h' : HP} {fs : List Value} (hC : CS aS wS u sv h) (ht : h tx2 = some (bO 14 fs)) (hf : ∀ q b, q ≠ tx2 → h q = some b → h' q = some b) : CS aS wS u sv h' := ⟨fun s hs => ⟨fun k hk hd => by
  have := (hC.1 s hs).1 k hk hd
  refine hf _ _ (fun e => ?_) this
  rw [e, ht] at this
  exact kn14 (by rw [show 14 = kd (bO 14 fs) from rfl, Option.some.inj this]; exact kd_c), (hC.1 s hs).2⟩, hC.2⟩
theorem ru_of {X D R hd u : Nat} {aS : Nat → Nat → Nat} {wS : Nat → Nat → Int32} {sv : Bool} {rs dt : Int32} {tx la : Nat} {h H h' : HP} {r N : Nat} {res : OpR} {v : Option Value} {fs : List Value} (hp : puQ X D R hd u aS wS sv rs dt tx la h res (.inl v) H) (ht : H tx = some (bO 14 fs)) (hS : SB h' tx r N []) (hf : ∀ q b, q ≠ tx → H q = some b → h' q = some b) : ruQ X D R hd u aS wS sv rs dt tx la h r N res (.inl v) h' := by
  obtain ⟨hv, hd', u', aS', wS', rs', dt', h1, h2, h3, h4⟩ := hp
  exact ⟨hv, hS, hd', u', aS', wS', rs', dt', CO_tx h1 ht hf, CS_tx h2 ht hf, fun q b a1 a2 a3 a4 hfr hb => ⟨hf q b a4 (h3 q b a1 a2 a3 hfr hb).1, (h3 q b a1 a2 a3 hfr hb).2⟩, h4⟩
/-- a new company takes the place of the one of now, which is kept -/
theorem op_RU {X D R hd u hd' u' : Nat} {aS : Nat → Nat → Nat} {wS : Nat → Nat → Int32} {sv : Bool} {rs dt : Int32} {tx la : Nat} {h H1 : HP} {adN : Nat → Nat} {a : Int32} {w' : Nat → Int32} {it' : Nat → Nat} (hO : CO X D R hd u aS sv rs dt tx la h) (hC : CS aS wS u sv h) (hx : Ext h H1) (i2 : cI adN w') (f2 : ∀ k, k < 160 → cdom w' k = true → h (adN k) = none) (s2 : St H1 adN w') (hch : chD hd u (fun i => aS (1 + i) 0) (aS 0 0) hd' u' it') : puQ X D R hd u aS wS sv rs dt tx la h (oK a w') (.inl (some (.int a))) (hu (hu (hu H1 X (bO 0 [.ref (adN 0), svV aS sv, .ref D, .int rs, .int dt, .ref tx, .ref la])) R (bDr hd' u' it')) D (bDq R hd' u')) := by
  have hu8 := hO.2.2.2.2
  have hO1 := CO_ext hO hx
  have eXD : X ≠ D := kd_ne hO.1 hO.2.1 (show 0 ≠ 13 by decide)
  have eXR : X ≠ R := kd_ne hO.1 hO.2.2.1 (show 0 ≠ 1017 by decide)
  have eRD : R ≠ D := kd_ne hO.2.2.1 hO.2.1 (show 1017 ≠ 13 by decide)
  have fin : ∀ (g : Nat → Nat) (aS2 : Nat → Nat → Nat) (wS2 : Nat → Nat → Int32), CS aS2 wS2 u' sv H1 → aS2 0 = adN → wS2 0 = w' → (∀ s, lvS u' sv s → s ≠ 0 → aS2 s = aS (g s) ∧ wS2 s = wS (g s) ∧ lvS u sv (g s)) → aS2 9 = aS 9 → wS2 9 = wS 9 → hd' < 17 → u' ≤ 8 → (∀ i, i < u' → it' i = aS2 (1 + i) 0) → ((u < 8 ∧ u' = u + 1 ∧ wS2 (1 + u) = wS 0 ∧ ∀ i, i < u → wS2 (1 + i) = wS (1 + i)) ∨ (u = 8 ∧ u' = 8 ∧ wS2 8 = wS 0 ∧ ∀ i, i < 7 → wS2 (1 + i) = wS (2 + i))) → puQ X D R hd u aS wS sv rs dt tx la h (oK a w') (.inl (some (.int a))) (hu (hu (hu H1 X (bO 0 [.ref (adN 0), svV aS sv, .ref D, .int rs, .int dt, .ref tx, .ref la])) R (bDr hd' u' it')) D (bDq R hd' u')) := by
    intro g aS2 wS2 C2 a0 v0 old a9 v9 h17 u8 hit hk
    have hsv : svV aS2 sv = svV aS sv := by unfold svV; rw [a9]
    refine ⟨rfl, hd', u', aS2, wS2, rs, dt, ⟨?_, hu_s, ?_, h17, u8⟩, CS_hu (CS_hu (CS_hu C2 hO1.1 kn0) ((hu_n (Ne.symm eXR)).trans hO1.2.2.1) kn1017) ((hu_n (Ne.symm eRD)).trans ((hu_n (Ne.symm eXD)).trans hO1.2.1)) kn13, fun q b qX qD qR hfr hb => ⟨?_, fun s hs => ?_⟩, rfl, rfl, v0, v9, hk⟩
    · rw [hu_n eXD, hu_n eXR, hu_s, bX, hsv, a0]
    · rw [hu_n eRD, hu_s]
      exact congrArg (fun f => some (bR 3 17 f)) (fDq_cg hit)
    · rw [hu_n qD, hu_n qR, hu_n qX]
      exact hx q b hb
    · by_cases s0 : s = 0
      · rw [s0, a0, v0]
        exact fam_none fun k hk hd3 e => by
          rw [← e, f2 k hk hd3] at hb
          cases hb
      · obtain ⟨e1, e2, e3⟩ := old s hs s0
        rw [e1, e2]
        exact hfr _ e3
  obtain ⟨h17, ⟨u8, rfl, rfl⟩ | ⟨rfl, rfl, rfl⟩⟩ := hch
  · have C1 := CS_new (u' := u + 1) (sv' := sv) (p := u + 1) hC hx i2 f2 s2 (fun s hs hp => by
      rcases hs with h | h | h
      · exact Or.inl h
      · exact Or.inr (Or.inl ⟨h.1, by omega⟩)
      · exact Or.inr (Or.inr h))
    have C2 := CS_slot (u' := u + 1) (fun s => if s = 0 then u + 1 else if s = u + 1 then 0 else s) C1 (fun s hs => by
      show lvS (u + 1) sv (if s = 0 then u + 1 else if s = u + 1 then 0 else s)
      by_cases e : s = 0
      · rw [if_pos e]; exact Or.inr (Or.inl ⟨by omega, by omega⟩)
      · rw [if_neg e]
        by_cases e2 : s = u + 1
        · rw [if_pos e2]; exact Or.inl rfl
        · rw [if_neg e2]; exact hs) (fun s t hs ht hst => by
      show (if s = 0 then u + 1 else if s = u + 1 then 0 else s) ≠ (if t = 0 then u + 1 else if t = u + 1 then 0 else t)
      by_cases e1 : s = 0
      · rw [if_pos e1]
        by_cases e2 : t = 0
        · omega
        · rw [if_neg e2]
          by_cases e3 : t = u + 1
          · rw [if_pos e3]; omega
          · rw [if_neg e3]; omega
      · rw [if_neg e1]
        by_cases e4 : s = u + 1
        · rw [if_pos e4]
          by_cases e2 : t = 0
          · rw [if_pos e2]; omega
          · rw [if_neg e2]
            by_cases e3 : t = u + 1
            · omega
            · rw [if_neg e3]; omega
        · rw [if_neg e4]
          by_cases e2 : t = 0
          · rw [if_pos e2]; omega
          · rw [if_neg e2]
            by_cases e3 : t = u + 1
            · rw [if_pos e3]; omega
            · rw [if_neg e3]; omega)
    have g0 : (if (0 : Nat) = 0 then u + 1 else if 0 = u + 1 then 0 else 0) = u + 1 := if_pos rfl
    have g1 : (if u + 1 = 0 then u + 1 else if u + 1 = u + 1 then 0 else u + 1) = 0 := by rw [if_neg (by omega), if_pos rfl]
    have g2 : ∀ s, s ≠ 0 → s ≠ u + 1 → (if s = 0 then u + 1 else if s = u + 1 then 0 else s) = s := fun s h1 h2 => by rw [if_neg h1, if_neg h2]
    refine fin (fun s => if s = u + 1 then 0 else s) _ _ C2 ?_ ?_ (fun s hs s0 => ?_) ?_ ?_ h17 (by omega) (fun i hi => ?_) (Or.inl ⟨u8, rfl, ?_, fun i hi => ?_⟩)
    · show upS aS (u + 1) adN (if (0 : Nat) = 0 then u + 1 else if 0 = u + 1 then 0 else 0) = adN
      rw [g0, upS_s]
    · show upS wS (u + 1) w' (if (0 : Nat) = 0 then u + 1 else if 0 = u + 1 then 0 else 0) = w'
      rw [g0, upS_s]
    · show upS aS (u + 1) adN (if s = 0 then u + 1 else if s = u + 1 then 0 else s) = aS (if s = u + 1 then 0 else s) ∧ upS wS (u + 1) w' (if s = 0 then u + 1 else if s = u + 1 then 0 else s) = wS (if s = u + 1 then 0 else s) ∧ lvS u sv (if s = u + 1 then 0 else s)
      rw [if_neg s0]
      by_cases e : s = u + 1
      · rw [if_pos e, upS_n (by omega), upS_n (by omega)]
        exact ⟨rfl, rfl, Or.inl rfl⟩
      · rw [if_neg e, upS_n e, upS_n e]
        refine ⟨rfl, rfl, ?_⟩
        rcases hs with h | h | h
        · exact Or.inl h
        · exact Or.inr (Or.inl ⟨h.1, by omega⟩)
        · exact Or.inr (Or.inr h)
    · show upS aS (u + 1) adN (if (9 : Nat) = 0 then u + 1 else if 9 = u + 1 then 0 else 9) = aS 9
      rw [g2 9 (by omega) (by omega), upS_n (by omega)]
    · show upS wS (u + 1) w' (if (9 : Nat) = 0 then u + 1 else if 9 = u + 1 then 0 else 9) = wS 9
      rw [g2 9 (by omega) (by omega), upS_n (by omega)]
    · show (if i = u then aS 0 0 else aS (1 + i) 0) = upS aS (u + 1) adN (if 1 + i = 0 then u + 1 else if 1 + i = u + 1 then 0 else 1 + i) 0
      by_cases e : i = u
      · rw [if_pos e, show 1 + i = u + 1 by omega, g1, upS_n (by omega)]
      · rw [if_neg e, g2 _ (by omega) (by omega), upS_n (by omega)]
    · show upS wS (u + 1) w' (if 1 + u = 0 then u + 1 else if 1 + u = u + 1 then 0 else 1 + u) = wS 0
      rw [show 1 + u = u + 1 by omega, g1, upS_n (by omega)]
    · show upS wS (u + 1) w' (if 1 + i = 0 then u + 1 else if 1 + i = u + 1 then 0 else 1 + i) = wS (1 + i)
      rw [g2 _ (by omega) (by omega), upS_n (by omega)]
  · have C0 := CS_slot (u' := 8) (fun s => if s = 0 then 1 else if s = 8 then 0 else if s = 9 then 9 else s + 1) hC (fun s hs => by
      show lvS 8 sv (if s = 0 then 1 else if s = 8 then 0 else if s = 9 then 9 else s + 1)
      by_cases e : s = 0
      · rw [if_pos e]; exact Or.inr (Or.inl ⟨by omega, by omega⟩)
      · rw [if_neg e]
        by_cases e2 : s = 8
        · rw [if_pos e2]; exact Or.inl rfl
        · rw [if_neg e2]
          by_cases e3 : s = 9
          · rw [if_pos e3, ← e3]; exact hs
          · rw [if_neg e3]
            rcases hs with h | h | h
            · exact absurd h e
            · exact Or.inr (Or.inl ⟨by omega, by omega⟩)
            · exact absurd h.1 e3) (fun s t hs ht hst => by
      have a1 : s ≤ 9 := by rcases hs with h | h | h <;> omega
      have a2 : t ≤ 9 := by rcases ht with h | h | h <;> omega
      show (if s = 0 then 1 else if s = 8 then 0 else if s = 9 then 9 else s + 1) ≠ (if t = 0 then 1 else if t = 8 then 0 else if t = 9 then 9 else t + 1)
      (repeat' split) <;> omega)
    have C2 := CS_new (u' := 8) (sv' := sv) (p := 0) C0 hx i2 f2 s2 (fun s hs _ => hs)
    have gn : ∀ s, s ≠ 0 → s ≠ 8 → s ≠ 9 → (if s = 0 then 1 else if s = 8 then 0 else if s = 9 then 9 else s + 1) = s + 1 := fun s h1 h2 h3 => by rw [if_neg h1, if_neg h2, if_neg h3]
    refine fin (fun s => if s = 0 then 1 else if s = 8 then 0 else if s = 9 then 9 else s + 1) _ _ C2 upS_s upS_s (fun s hs s0 => ⟨upS_n s0, upS_n s0, ?_⟩) (upS_n (by omega)) (upS_n (by omega)) h17 (by omega) (fun i hi => ?_) (Or.inr ⟨rfl, rfl, upS_n (by omega), fun i hi => ?_⟩)
    · show lvS 8 sv (if s = 0 then 1 else if s = 8 then 0 else if s = 9 then 9 else s + 1)
      rw [if_neg s0]
      by_cases e2 : s = 8
      · rw [if_pos e2]; exact Or.inl rfl
      · rw [if_neg e2]
        by_cases e3 : s = 9
        · rw [if_pos e3, ← e3]; exact hs
        · rw [if_neg e3]
          rcases hs with h | h | h
          · exact absurd h s0
          · exact Or.inr (Or.inl ⟨by omega, by omega⟩)
          · exact absurd h.1 e3
    · rw [upS_n (by omega)]
      show (if i + 1 = 8 then aS 0 0 else aS (1 + (i + 1)) 0) = aS (if 1 + i = 0 then 1 else if 1 + i = 8 then 0 else if 1 + i = 9 then 9 else 1 + i + 1) 0
      by_cases e : i + 1 = 8
      · rw [if_pos e, if_neg (by omega), if_pos (by omega)]
      · rw [if_neg e, gn _ (by omega) (by omega) (by omega), Nat.add_assoc]
    · rw [upS_n (by omega)]
      show wS (if 1 + i = 0 then 1 else if 1 + i = 8 then 0 else if 1 + i = 9 then 9 else 1 + i + 1) = wS (2 + i)
      rw [gn _ (by omega) (by omega) (by omega), show 1 + i + 1 = 2 + i by omega]
/-- one order more done on the company that will be -/
theorem cP_step {hB H H' : HP} {ad : Nat → Nat} {w w' : Nat → Int32} (S0 : St H ad w) (hx : Ext hB H) (f2 : ∀ k, k < 160 → cdom w k = true → hB (ad k) = none) (hP : cP ad w H w' H') : ∃ ad', cI ad' w' ∧ ad' 0 = ad 0 ∧ St H' ad' w' ∧ Ext hB H' ∧ (∀ k, k < 160 → cdom w' k = true → hB (ad' k) = none) ∧ ∀ q b, ¬ kin (kd b) → H q = some b → H' q = some b := by
  have fr := cP_fr S0 hP
  obtain ⟨ad', h1, i', e0, hf, hm, hx1, hH⟩ := hP
  have nb : ∀ q b, hB q = some b → cF ad w q = none := fun q b hb => fam_none fun k hk hd e => by
    rw [← e, f2 k hk hd] at hb
    cases hb
  refine ⟨ad', i', e0, by rw [hH]; exact St_cH i', fun q b hb => fr q b (nb q b hb) (hx q b hb), fun k hk hd => ?_, fun q b hk hb => fr q b (cF_kd S0 hb hk) hb⟩
  rcases hf k hk hd with ⟨d1, e1⟩ | e1
  · rw [e1]; exact f2 k hk d1
  · rw [← St_eq S0] at e1
    cases e : hB (ad' k) with
    | none => rfl
    | some b => rw [hx _ _ e] at e1; cases e1
