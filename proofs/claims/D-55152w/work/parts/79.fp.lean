set_option maxRecDepth 100000
def nn32 (r : UInt32) : Bool := decide (r &&& 0x7fffffff ≤ 0x7f800000)
def nn64 (r : UInt64) : Bool := decide (r &&& 0x7fffffffffffffff ≤ 0x7ff0000000000000)
theorem nn32_i {r : UInt32} (h : nn32 r = true) : vf_n32 r := of_decide_eq_true (p := r &&& 0x7fffffff ≤ 0x7f800000) h
theorem nn64_i {r : UInt64} (h : nn64 r = true) : vf_n64 r := of_decide_eq_true (p := r &&& 0x7fffffffffffffff ≤ 0x7ff0000000000000) h
theorem fp_mean : ∀ s : Nat, s < 181 → vf_n64 (Jvm.FP.ddiv (Jvm.FP.i2d (nI s)) 4626322717216342016) := fun s hs => nn64_i (allB_at (n := 181) (p := fun s => nn64 (Jvm.FP.ddiv (Jvm.FP.i2d (nI s)) 4626322717216342016)) (by decide +kernel) s hs)
theorem fp_share : allB 161 (fun b => allB (b + 1) (fun a => decide (b = 0) || (nn32 (Jvm.FP.fdiv (Jvm.FP.i2f (nI a)) (Jvm.FP.i2f (nI b))) && nn64 (Jvm.FP.f2d (Jvm.FP.fdiv (Jvm.FP.i2f (nI a)) (Jvm.FP.i2f (nI b))))))) = true := by decide +kernel
