set_option maxRecDepth 100000
/-! ===== the reference's object: eight cells at A 0 .. A 7, what they hold: S (S 7: the scalars) ===== -/
def mcell (A : Nat → Nat) (S : Nat → Nat → Int32) : Nat → Bd := fun k => match k with
  | 0 => bI 0 413 (S 0)
  | 1 => bI 0 413 (S 1)
  | 2 => bI 0 3304 (S 2)
  | 3 => bI 0 413 (S 3)
  | 4 => bI 0 60 (S 4)
  | 5 => bI 0 60 (S 5)
  | 6 => bI 0 3 (S 6)
  | _ => bO 3 [.ref (A 0), .ref (A 1), .ref (A 2), .int (S 7 0), .ref (A 3), .int (S 7 1), .ref (A 4), .int (S 7 2), .ref (A 5), .int (S 7 3), .int (S 7 4), .int (S 7 5), .ref (A 6), .int (S 7 6), .int (S 7 7), .int (S 7 8)]
def mdom : Nat → Bool := fun _ => true
def mdH (A : Nat → Nat) (S : Nat → Nat → Int32) : HP := fam 8 mdom A (mcell A S)
def sa (S : Nat → Nat → Int32) (k : Nat) (f : Nat → Int32) : Nat → Nat → Int32 := fun i => if i = k then f else S i
def ss (S : Nat → Nat → Int32) (k : Nat) (v : Int32) : Nat → Nat → Int32 := sa S 7 (upd (S 7) k v)
section MH
variable {A : Nat → Nat} {S : Nat → Nat → Int32} {h : HP}
theorem m_o (hi : inj 8 mdom A) : ov (mdH A S) h (A 7) = some (bO 3 [.ref (A 0), .ref (A 1), .ref (A 2), .int (S 7 0), .ref (A 3), .int (S 7 1), .ref (A 4), .int (S 7 2), .ref (A 5), .int (S 7 3), .int (S 7 4), .int (S 7 5), .ref (A 6), .int (S 7 6), .int (S 7 7), .int (S 7 8)]) := ov_s (fam_at 7 hi (by decide) rfl)
theorem m_a0 (hi : inj 8 mdom A) : ov (mdH A S) h (A 0) = some (bI 0 413 (S 0)) := ov_s (fam_at 0 hi (by decide) rfl)
theorem m_a1 (hi : inj 8 mdom A) : ov (mdH A S) h (A 1) = some (bI 0 413 (S 1)) := ov_s (fam_at 1 hi (by decide) rfl)
theorem m_a2 (hi : inj 8 mdom A) : ov (mdH A S) h (A 2) = some (bI 0 3304 (S 2)) := ov_s (fam_at 2 hi (by decide) rfl)
theorem m_a3 (hi : inj 8 mdom A) : ov (mdH A S) h (A 3) = some (bI 0 413 (S 3)) := ov_s (fam_at 3 hi (by decide) rfl)
theorem m_a4 (hi : inj 8 mdom A) : ov (mdH A S) h (A 4) = some (bI 0 60 (S 4)) := ov_s (fam_at 4 hi (by decide) rfl)
theorem m_a5 (hi : inj 8 mdom A) : ov (mdH A S) h (A 5) = some (bI 0 60 (S 5)) := ov_s (fam_at 5 hi (by decide) rfl)
theorem m_a6 (hi : inj 8 mdom A) : ov (mdH A S) h (A 6) = some (bI 0 3 (S 6)) := ov_s (fam_at 6 hi (by decide) rfl)
theorem m_w0 (hi : inj 8 mdom A) {f : Nat → Int32} : hu (ov (mdH A S) h) (A 0) (bI 0 413 f) = ov (mdH A (sa S 0 f)) h := by
  rw [hu_ov]
  congr 1
  refine fam_up 0 hi (by decide) rfl rfl fun j hj _ hne => ?_
  match j, hj, hne with
  | 0, _, hne => exact absurd rfl hne
  | 1, _, hne => rfl
  | 2, _, hne => rfl
  | 3, _, hne => rfl
  | 4, _, hne => rfl
  | 5, _, hne => rfl
  | 6, _, hne => rfl
  | 7, _, hne => rfl
theorem m_w1 (hi : inj 8 mdom A) {f : Nat → Int32} : hu (ov (mdH A S) h) (A 1) (bI 0 413 f) = ov (mdH A (sa S 1 f)) h := by
  rw [hu_ov]
  congr 1
  refine fam_up 1 hi (by decide) rfl rfl fun j hj _ hne => ?_
  match j, hj, hne with
  | 0, _, hne => rfl
  | 1, _, hne => exact absurd rfl hne
  | 2, _, hne => rfl
  | 3, _, hne => rfl
  | 4, _, hne => rfl
  | 5, _, hne => rfl
  | 6, _, hne => rfl
  | 7, _, hne => rfl
theorem m_w2 (hi : inj 8 mdom A) {f : Nat → Int32} : hu (ov (mdH A S) h) (A 2) (bI 0 3304 f) = ov (mdH A (sa S 2 f)) h := by
  rw [hu_ov]
  congr 1
  refine fam_up 2 hi (by decide) rfl rfl fun j hj _ hne => ?_
  match j, hj, hne with
  | 0, _, hne => rfl
  | 1, _, hne => rfl
  | 2, _, hne => exact absurd rfl hne
  | 3, _, hne => rfl
  | 4, _, hne => rfl
  | 5, _, hne => rfl
  | 6, _, hne => rfl
  | 7, _, hne => rfl
theorem m_w3 (hi : inj 8 mdom A) {f : Nat → Int32} : hu (ov (mdH A S) h) (A 3) (bI 0 413 f) = ov (mdH A (sa S 3 f)) h := by
  rw [hu_ov]
  congr 1
  refine fam_up 3 hi (by decide) rfl rfl fun j hj _ hne => ?_
  match j, hj, hne with
  | 0, _, hne => rfl
  | 1, _, hne => rfl
  | 2, _, hne => rfl
  | 3, _, hne => exact absurd rfl hne
  | 4, _, hne => rfl
  | 5, _, hne => rfl
  | 6, _, hne => rfl
  | 7, _, hne => rfl
theorem m_w4 (hi : inj 8 mdom A) {f : Nat → Int32} : hu (ov (mdH A S) h) (A 4) (bI 0 60 f) = ov (mdH A (sa S 4 f)) h := by
  rw [hu_ov]
  congr 1
  refine fam_up 4 hi (by decide) rfl rfl fun j hj _ hne => ?_
  match j, hj, hne with
  | 0, _, hne => rfl
  | 1, _, hne => rfl
  | 2, _, hne => rfl
  | 3, _, hne => rfl
  | 4, _, hne => exact absurd rfl hne
  | 5, _, hne => rfl
  | 6, _, hne => rfl
  | 7, _, hne => rfl
theorem m_w5 (hi : inj 8 mdom A) {f : Nat → Int32} : hu (ov (mdH A S) h) (A 5) (bI 0 60 f) = ov (mdH A (sa S 5 f)) h := by
  rw [hu_ov]
  congr 1
  refine fam_up 5 hi (by decide) rfl rfl fun j hj _ hne => ?_
  match j, hj, hne with
  | 0, _, hne => rfl
  | 1, _, hne => rfl
  | 2, _, hne => rfl
  | 3, _, hne => rfl
  | 4, _, hne => rfl
  | 5, _, hne => exact absurd rfl hne
  | 6, _, hne => rfl
  | 7, _, hne => rfl
theorem m_w6 (hi : inj 8 mdom A) {f : Nat → Int32} : hu (ov (mdH A S) h) (A 6) (bI 0 3 f) = ov (mdH A (sa S 6 f)) h := by
  rw [hu_ov]
  congr 1
  refine fam_up 6 hi (by decide) rfl rfl fun j hj _ hne => ?_
  match j, hj, hne with
  | 0, _, hne => rfl
  | 1, _, hne => rfl
  | 2, _, hne => rfl
  | 3, _, hne => rfl
  | 4, _, hne => rfl
  | 5, _, hne => rfl
  | 6, _, hne => exact absurd rfl hne
  | 7, _, hne => rfl
theorem m_s0 (hi : inj 8 mdom A) {v : Int32} : hu (ov (mdH A S) h) (A 7) (bO 3 [.ref (A 0), .ref (A 1), .ref (A 2), .int v, .ref (A 3), .int (S 7 1), .ref (A 4), .int (S 7 2), .ref (A 5), .int (S 7 3), .int (S 7 4), .int (S 7 5), .ref (A 6), .int (S 7 6), .int (S 7 7), .int (S 7 8)]) = ov (mdH A (ss S 0 v)) h := by
  rw [hu_ov]
  congr 1
  refine fam_up 7 hi (by decide) rfl rfl fun j hj _ hne => ?_
  match j, hj, hne with
  | 0, _, hne => rfl
  | 1, _, hne => rfl
  | 2, _, hne => rfl
  | 3, _, hne => rfl
  | 4, _, hne => rfl
  | 5, _, hne => rfl
  | 6, _, hne => rfl
  | 7, _, hne => exact absurd rfl hne
theorem m_s1 (hi : inj 8 mdom A) {v : Int32} : hu (ov (mdH A S) h) (A 7) (bO 3 [.ref (A 0), .ref (A 1), .ref (A 2), .int (S 7 0), .ref (A 3), .int v, .ref (A 4), .int (S 7 2), .ref (A 5), .int (S 7 3), .int (S 7 4), .int (S 7 5), .ref (A 6), .int (S 7 6), .int (S 7 7), .int (S 7 8)]) = ov (mdH A (ss S 1 v)) h := by
  rw [hu_ov]
  congr 1
  refine fam_up 7 hi (by decide) rfl rfl fun j hj _ hne => ?_
  match j, hj, hne with
  | 0, _, hne => rfl
  | 1, _, hne => rfl
  | 2, _, hne => rfl
  | 3, _, hne => rfl
  | 4, _, hne => rfl
  | 5, _, hne => rfl
  | 6, _, hne => rfl
  | 7, _, hne => exact absurd rfl hne
theorem m_s2 (hi : inj 8 mdom A) {v : Int32} : hu (ov (mdH A S) h) (A 7) (bO 3 [.ref (A 0), .ref (A 1), .ref (A 2), .int (S 7 0), .ref (A 3), .int (S 7 1), .ref (A 4), .int v, .ref (A 5), .int (S 7 3), .int (S 7 4), .int (S 7 5), .ref (A 6), .int (S 7 6), .int (S 7 7), .int (S 7 8)]) = ov (mdH A (ss S 2 v)) h := by
  rw [hu_ov]
  congr 1
  refine fam_up 7 hi (by decide) rfl rfl fun j hj _ hne => ?_
  match j, hj, hne with
  | 0, _, hne => rfl
  | 1, _, hne => rfl
  | 2, _, hne => rfl
  | 3, _, hne => rfl
  | 4, _, hne => rfl
  | 5, _, hne => rfl
  | 6, _, hne => rfl
  | 7, _, hne => exact absurd rfl hne
theorem m_s3 (hi : inj 8 mdom A) {v : Int32} : hu (ov (mdH A S) h) (A 7) (bO 3 [.ref (A 0), .ref (A 1), .ref (A 2), .int (S 7 0), .ref (A 3), .int (S 7 1), .ref (A 4), .int (S 7 2), .ref (A 5), .int v, .int (S 7 4), .int (S 7 5), .ref (A 6), .int (S 7 6), .int (S 7 7), .int (S 7 8)]) = ov (mdH A (ss S 3 v)) h := by
  rw [hu_ov]
  congr 1
  refine fam_up 7 hi (by decide) rfl rfl fun j hj _ hne => ?_
  match j, hj, hne with
  | 0, _, hne => rfl
  | 1, _, hne => rfl
  | 2, _, hne => rfl
  | 3, _, hne => rfl
  | 4, _, hne => rfl
  | 5, _, hne => rfl
  | 6, _, hne => rfl
  | 7, _, hne => exact absurd rfl hne
theorem m_s4 (hi : inj 8 mdom A) {v : Int32} : hu (ov (mdH A S) h) (A 7) (bO 3 [.ref (A 0), .ref (A 1), .ref (A 2), .int (S 7 0), .ref (A 3), .int (S 7 1), .ref (A 4), .int (S 7 2), .ref (A 5), .int (S 7 3), .int v, .int (S 7 5), .ref (A 6), .int (S 7 6), .int (S 7 7), .int (S 7 8)]) = ov (mdH A (ss S 4 v)) h := by
  rw [hu_ov]
  congr 1
  refine fam_up 7 hi (by decide) rfl rfl fun j hj _ hne => ?_
  match j, hj, hne with
  | 0, _, hne => rfl
  | 1, _, hne => rfl
  | 2, _, hne => rfl
  | 3, _, hne => rfl
  | 4, _, hne => rfl
  | 5, _, hne => rfl
  | 6, _, hne => rfl
  | 7, _, hne => exact absurd rfl hne
theorem m_s5 (hi : inj 8 mdom A) {v : Int32} : hu (ov (mdH A S) h) (A 7) (bO 3 [.ref (A 0), .ref (A 1), .ref (A 2), .int (S 7 0), .ref (A 3), .int (S 7 1), .ref (A 4), .int (S 7 2), .ref (A 5), .int (S 7 3), .int (S 7 4), .int v, .ref (A 6), .int (S 7 6), .int (S 7 7), .int (S 7 8)]) = ov (mdH A (ss S 5 v)) h := by
  rw [hu_ov]
  congr 1
  refine fam_up 7 hi (by decide) rfl rfl fun j hj _ hne => ?_
  match j, hj, hne with
  | 0, _, hne => rfl
  | 1, _, hne => rfl
  | 2, _, hne => rfl
  | 3, _, hne => rfl
  | 4, _, hne => rfl
  | 5, _, hne => rfl
  | 6, _, hne => rfl
  | 7, _, hne => exact absurd rfl hne
theorem m_s6 (hi : inj 8 mdom A) {v : Int32} : hu (ov (mdH A S) h) (A 7) (bO 3 [.ref (A 0), .ref (A 1), .ref (A 2), .int (S 7 0), .ref (A 3), .int (S 7 1), .ref (A 4), .int (S 7 2), .ref (A 5), .int (S 7 3), .int (S 7 4), .int (S 7 5), .ref (A 6), .int v, .int (S 7 7), .int (S 7 8)]) = ov (mdH A (ss S 6 v)) h := by
  rw [hu_ov]
  congr 1
  refine fam_up 7 hi (by decide) rfl rfl fun j hj _ hne => ?_
  match j, hj, hne with
  | 0, _, hne => rfl
  | 1, _, hne => rfl
  | 2, _, hne => rfl
  | 3, _, hne => rfl
  | 4, _, hne => rfl
  | 5, _, hne => rfl
  | 6, _, hne => rfl
  | 7, _, hne => exact absurd rfl hne
theorem m_s7 (hi : inj 8 mdom A) {v : Int32} : hu (ov (mdH A S) h) (A 7) (bO 3 [.ref (A 0), .ref (A 1), .ref (A 2), .int (S 7 0), .ref (A 3), .int (S 7 1), .ref (A 4), .int (S 7 2), .ref (A 5), .int (S 7 3), .int (S 7 4), .int (S 7 5), .ref (A 6), .int (S 7 6), .int v, .int (S 7 8)]) = ov (mdH A (ss S 7 v)) h := by
  rw [hu_ov]
  congr 1
  refine fam_up 7 hi (by decide) rfl rfl fun j hj _ hne => ?_
  match j, hj, hne with
  | 0, _, hne => rfl
  | 1, _, hne => rfl
  | 2, _, hne => rfl
  | 3, _, hne => rfl
  | 4, _, hne => rfl
  | 5, _, hne => rfl
  | 6, _, hne => rfl
  | 7, _, hne => exact absurd rfl hne
theorem m_s8 (hi : inj 8 mdom A) {v : Int32} : hu (ov (mdH A S) h) (A 7) (bO 3 [.ref (A 0), .ref (A 1), .ref (A 2), .int (S 7 0), .ref (A 3), .int (S 7 1), .ref (A 4), .int (S 7 2), .ref (A 5), .int (S 7 3), .int (S 7 4), .int (S 7 5), .ref (A 6), .int (S 7 6), .int (S 7 7), .int v]) = ov (mdH A (ss S 8 v)) h := by
  rw [hu_ov]
  congr 1
  refine fam_up 7 hi (by decide) rfl rfl fun j hj _ hne => ?_
  match j, hj, hne with
  | 0, _, hne => rfl
  | 1, _, hne => rfl
  | 2, _, hne => rfl
  | 3, _, hne => rfl
  | 4, _, hne => rfl
  | 5, _, hne => rfl
  | 6, _, hne => rfl
  | 7, _, hne => exact absurd rfl hne
end MH
