set_option maxRecDepth 100000
/-- what the run's later calls can see of the reference's state -/
def mE (T S' : Nat → Nat → Int32) : Prop := S' 0 = T 0 ∧ S' 2 = T 2 ∧ S' 3 = T 3 ∧ S' 4 = T 4 ∧ S' 5 = T 5 ∧ S' 7 0 = T 7 0 ∧ S' 7 1 = T 7 1 ∧ S' 7 2 = T 7 2 ∧ S' 7 3 = T 7 3 ∧ S' 7 6 = T 7 6 ∧ S' 7 7 = T 7 7
/-- a change, answered: nothing, a refusal noted, or the state ahead of it kept -/
def mPub (S : Nat → Nat → Int32) (r : OpR) : Int32 × (Nat → Nat → Int32) := match r with
  | .inl v => (v, S)
  | .inr (.inl a) => (-14, ss (ss S 6 a.1) 7 a.2)
  | .inr (.inr a) => (a.1, ss (sa (sa S 0 a.2) 2 (mKeepA (sa S 1 (S 0)))) 0 (mKeepU S))
def mPubQ (A : Nat → Nat) (S : Nat → Nat → Int32) (h : HP) (r : OpR) : Oc → HP → Prop := rQ (fun v h' => v = some (.int (mPub S r).1) ∧ ∃ S', h' = ov (mdH A S') h ∧ mE (mPub S r).2 S')
theorem mPut_cpN {n : Nat} {f g k : Nat → Int32} {u : Nat} : mPut n f (cpN n g k) u = mPut n f g u := by
  funext j
  simp only [mPut, cpN]
  by_cases e : 413 * u ≤ j ∧ j < 413 * u + n
  · rw [if_pos e, if_pos e, if_pos (by omega)]
  · rw [if_neg e, if_neg e]
theorem mKeepA_eq {S S' : Nat → Nat → Int32} {g : Nat → Int32} (h1 : S' 1 = cpN 413 (S 0) g) (h2 : S' 2 = S 2) (h3 : S' 7 0 = S 7 0) : mKeepA S' = mKeepA (sa S 1 (S 0)) := by
  unfold mKeepA
  rw [h1, h2, h3, mPut_cpN, mPut_cpN]
  rfl
theorem mKeepU_eq {S S' : Nat → Nat → Int32} (h3 : S' 7 0 = S 7 0) : mKeepU S' = mKeepU S := by
  unfold mKeepU
  rw [h3]
theorem s10 {S : Nat → Nat → Int32} {f : Nat → Int32} : sa S 1 f 0 = S 0 := rfl
theorem ss0 {S : Nat → Nat → Int32} {k : Nat} {v : Int32} : ss S k v 0 = S 0 := rfl
def mres (S : Nat → Nat → Int32) (r : OpR) : Int32 × (Nat → Nat → Int32) := match r with
  | .inl v => (v, S)
  | .inr (.inl a) => (-14, ss (ss S 6 a.1) 7 a.2)
  | .inr (.inr a) => (0, ss (sa S 0 a.2) 8 a.1)
theorem mE_C {A : Nat → Nat} {S S1 : Nat → Nat → Int32} {h : HP} {r : OpR} {v : Int32} (hr : r = oC v) (hS : S1 = sa S 1 (cpN 413 (S 0) (S 1))) : mPubQ A S h r (.inl (some (.int v))) (ov (mdH A S1) h) := by
  subst hr
  subst hS
  exact ⟨rfl, _, rfl, rfl, rfl, rfl, rfl, rfl, rfl, rfl, rfl, rfl, rfl, rfl⟩
theorem mE_R {A : Nat → Nat} {S S1 : Nat → Nat → Int32} {h : HP} {r : OpR} {a b : Int32} (hr : r = oR a b) (hS : S1 = ss (ss (sa S 1 (cpN 413 (S 0) (S 1))) 6 a) 7 b) : mPubQ A S h r (.inl (some (.int (-14)))) (ov (mdH A S1) h) := by
  subst hr
  subst hS
  exact ⟨rfl, _, rfl, rfl, rfl, rfl, rfl, rfl, rfl, rfl, rfl, rfl, rfl, rfl⟩
/-- behind keeps -/
theorem mE_K {A : Nat → Nat} {S S1 : Nat → Nat → Int32} {h : HP} {r : OpR} {a : Int32} {w : Nat → Int32} (hr : r = oK a w) (h0 : S1 0 = w) (h1 : S1 1 = cpN 413 (S 0) (S 1)) (h2 : S1 2 = S 2) (h3 : S1 3 = S 3) (h4 : S1 4 = S 4) (h5 : S1 5 = S 5) (h7 : ∀ k, k < 8 → k ≠ 4 → k ≠ 5 → S1 7 k = S 7 k) : mPubQ A S h r (.inl (some (.int a))) (ov (mdH A (ss (sa S1 2 (mKeepA S1)) 0 (mKeepU S1))) h) := by
  subst hr
  have e7 := h7 0 (by decide) (by decide) (by decide)
  exact ⟨rfl, _, rfl, h0, mKeepA_eq h1 h2 e7, h3, h4, h5, mKeepU_eq e7, h7 1 (by decide) (by decide) (by decide), h7 2 (by decide) (by decide) (by decide), h7 3 (by decide) (by decide) (by decide), h7 6 (by decide) (by decide) (by decide), h7 7 (by decide) (by decide) (by decide)⟩
/-- n cells from 17 + 9 s on are 0 -/
def gZ (w : Nat → Int32) (s n : Nat) : Nat → Int32 := fun j => if 17 + 9 * s ≤ j ∧ j < 17 + 9 * s + n then 0 else w j
theorem gZ_0 {w : Nat → Int32} {s : Nat} : gZ w s 0 = w := by
  funext j
  simp only [gZ]
  rw [if_neg (by omega)]
theorem gZ_s {w : Nat → Int32} {s n : Nat} : upd (gZ w s n) (17 + 9 * s + n) 0 = gZ w s (n + 1) := by
  funext j
  simp only [upd, gZ]
  by_cases e : j = 17 + 9 * s + n
  · rw [if_pos e, if_pos (by omega)]
  · rw [if_neg e]
    by_cases e2 : 17 + 9 * s ≤ j ∧ j < 17 + 9 * s + n
    · rw [if_pos e2, if_pos (by omega)]
    · rw [if_neg e2, if_neg (by omega)]
theorem gNew_eq {w : Nat → Int32} {x : Int32} {s : Nat} (hs : tn (w 2) = s) : upd (gZ (upd w 2 (w 2 + 1)) s 9) (17 + 9 * s) x = gNew w x := by
  subst hs
  funext j
  simp only [upd, gZ, gNew]

