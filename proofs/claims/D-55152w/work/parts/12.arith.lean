set_option maxRecDepth 100000
/-! ===== numbers ===== -/
/-- a truth as the machine has it -/
def bi (b : Bool) : Int32 := if b = true then 1 else 0
theorem bi_0 {b : Bool} : bi b = 0 ↔ b = false := by cases b <;> decide
theorem bi_n0 {b : Bool} : ¬ bi b = 0 ↔ b = true := by cases b <;> decide
theorem bi_1 {b : Bool} : bi b = 1 ↔ b = true := by cases b <;> decide
theorem bi_t {p : Bool} (h : p = true) : (1 : Int32) = bi p := by rw [h]; rfl
theorem bi_f {p : Bool} (h : p = false) : (0 : Int32) = bi p := by rw [h]; rfl
theorem bi_nar {b : Bool} : narrow .boolean (.int (bi b)) = .int (bi b) := by cases b <;> rfl
theorem bi_fit {b : Bool} : fits .boolean (.int (bi b)) = true := by cases b <;> rfl
def BM (z : Int) : Int := z.bmod (2 ^ 32)
theorem BM_eq {z : Int} (h1 : -2147483648 ≤ z) (h2 : z < 2147483648) : z.bmod (2 ^ 32) = z := by
  rw [Int.bmod_eq_of_le_mul_two (by omega) (by omega)]
theorem tI_add (x y : Int32) : (x + y).toInt = if -2147483648 ≤ x.toInt + y.toInt ∧ x.toInt + y.toInt < 2147483648 then x.toInt + y.toInt else BM (x.toInt + y.toInt) := by
  rw [Int32.toInt_add]
  split
  · next h => exact BM_eq h.1 h.2
  · rfl
theorem tI_sub (x y : Int32) : (x - y).toInt = if -2147483648 ≤ x.toInt - y.toInt ∧ x.toInt - y.toInt < 2147483648 then x.toInt - y.toInt else BM (x.toInt - y.toInt) := by
  rw [Int32.toInt_sub]
  split
  · next h => exact BM_eq h.1 h.2
  · rfl
theorem tI_mul (x y : Int32) : (x * y).toInt = if -2147483648 ≤ x.toInt * y.toInt ∧ x.toInt * y.toInt < 2147483648 then x.toInt * y.toInt else BM (x.toInt * y.toInt) := by
  rw [Int32.toInt_mul]
  split
  · next h => exact BM_eq h.1 h.2
  · rfl
theorem tI_neg (x : Int32) : (-x).toInt = if -2147483648 ≤ -x.toInt ∧ -x.toInt < 2147483648 then -x.toInt else BM (-x.toInt) := by
  rw [Int32.toInt_neg]
  split
  · next h => exact BM_eq h.1 h.2
  · rfl
theorem i32_eq {x y : Int32} : x = y ↔ x.toInt = y.toInt := Int32.toInt_inj.symm
theorem i32_of {x : Int32} {n : Nat} (h : x.toInt = (n : Int)) : x = nI n := by
  have h2 := x.toInt_lt
  rw [i32_eq, nI_toInt (by omega), h]
theorem i32_nn {x : Int32} (h : 0 ≤ x.toInt) : ∃ n : Nat, x.toInt = (n : Int) ∧ n < 2147483648 := ⟨x.toInt.toNat, by omega, by have := x.toInt_lt; omega⟩
/-- a number between two bounds, as isIn has it -/
def isn (v lo hi : Int32) : Bool := decide (lo ≤ v) && decide (v ≤ hi)
theorem isn_t {v lo hi : Int32} : isn v lo hi = true ↔ lo.toInt ≤ v.toInt ∧ v.toInt ≤ hi.toInt := by
  simp only [isn, Bool.and_eq_true, decide_eq_true_eq, Int32.le_iff_toInt_le]
theorem isn_f {v lo hi : Int32} : isn v lo hi = false ↔ ¬ (lo.toInt ≤ v.toInt ∧ v.toInt ≤ hi.toInt) := by
  rw [← isn_t]
  cases isn v lo hi <;> simp
