set_option maxRecDepth 100000
/-! ===== WHAT BOTH SIDES COMPUTE: functions of the company's state as 413 ints (the reference's own layout) ===== -/
abbrev OpR : Type := Int32 ⊕ ((Int32 × Int32) ⊕ (Int32 × (Nat → Int32)))
/-- a code; a refusal (reason, detail); done (answer, new state) -/
abbrev oC (v : Int32) : OpR := .inl v
abbrev oR (r d : Int32) : OpR := .inr (.inl (r, d))
abbrev oK (a : Int32) (w : Nat → Int32) : OpR := .inr (.inr (a, w))
def tn (x : Int32) : Nat := x.toInt.toNat
def gSl (w : Nat → Int32) (s k : Nat) : Int32 := w (17 + 9 * s + k)
def gTm (w : Nat → Int32) (h : Nat) : Int32 := w (53 + 4 * h)
def gMd (w : Nat → Int32) (h : Nat) : Int32 := w (53 + 4 * h + 1) - 1
def gSteps (h : Int32) : Int32 := 1 + (3 * h - 3 * h / 5 * 5)
def gCalm (w : Nat → Int32) (h : Nat) (m : Int32) : Nat → Int32 := upd w (53 + 4 * h) (imax 0 (imin 9 (gTm w h + m)))
def isS (w : Nat → Int32) (s : Int32) : Bool := isn s 0 (w 2 - 1)
def isH (h : Int32) : Bool := isn h 0 19
def isB (b : Int32) : Bool := isn b 0 2
def isP (p : Int32) : Bool := isn p 1 20
def gNew (w : Nat → Int32) (charm : Int32) : Nat → Int32 := fun i => if i = 17 + 9 * tn (w 2) then charm else if 17 + 9 * tn (w 2) ≤ i ∧ i < 17 + 9 * tn (w 2) + 9 then 0 else if i = 2 then w 2 + 1 else w i
def oSeller (w : Nat → Int32) (charm : Int32) : OpR := if isn charm 0 9 = true then (if w 2 = 4 then oR 1 4 else oK (w 2) (gNew w charm)) else oC (-12)
def gDogs (w : Nat → Int32) : Nat → Int32
  | 0 => 0
  | n + 1 => if 0 ≤ gMd w n then gDogs w n + 1 else gDogs w n
def oDog (w : Nat → Int32) (h m : Int32) : OpR := if isH h = true then (if isn m 0 9 = true then (if 0 ≤ gMd w (tn h) then oR 15 (gMd w (tn h)) else oK (gDogs (upd w (53 + 4 * tn h + 1) (m + 1)) 20) (upd w (53 + 4 * tn h + 1) (m + 1))) else oC (-12)) else oC (-11)
def gSpend (w : Nat → Int32) (k : Int32) : Nat → Int32 := upd (upd w 4 (w 4 - k)) 11 (w 11 + k)
def gCost (b n : Int32) : Int32 := if b = 1 then 2 * n else n
def gMake (w : Nat → Int32) (b : Nat) (n : Int32) : Nat → Int32 := upd (upd w (14 + b) (w (14 + b) + n)) 5 (upd w (14 + b) (w (14 + b) + n) 5 + n)
def oMake (w : Nat → Int32) (b n : Int32) : OpR := if isB b = true then (if isn n 1 50 = true then (if 200 < w (14 + tn b) + n then oR 16 (w (14 + tn b)) else if w 4 < gCost b n then oR 8 (gCost b n - w 4) else oK (gMake (gSpend w (gCost b n)) (tn b) n (14 + tn b)) (gMake (gSpend w (gCost b n)) (tn b) n)) else oC (-12)) else oC (-11)
def gTake (w : Nat → Int32) (s b : Nat) (n : Int32) : Nat → Int32 := upd (upd w (14 + b) (w (14 + b) - n)) (17 + 9 * s + (3 + b)) (w (17 + 9 * s + (3 + b)) + n)
/-- the check of a taking, the places known -/
def gTakeR (w : Nat → Int32) (s b : Nat) (n : Int32) : OpR :=
  if gSl w s 1 = 0 then
    (if 0 < n then (if w (14 + b) < n then oR 5 (n - w (14 + b)) else if 12 < gSl w s (3 + b) + n then oR 6 (12 - gSl w s (3 + b)) else oK (gSl w s (3 + b) + n) (gTake w s b n))
     else (if gSl w s (3 + b) < -n then oR 7 (gSl w s (3 + b)) else if 200 < w (14 + b) - n then oR 16 (w (14 + b)) else oK (gSl w s (3 + b) + n) (gTake w s b n)))
  else oR 4 (gSl w s 1)
def isTk (n : Int32) : Bool := !(decide (n = 0)) && isn n (-12) 12
def oTakes (w : Nat → Int32) (s b n : Int32) : OpR := if isS w s = true ∧ isB b = true then (if isTk n = true then gTakeR w (tn s) (tn b) n else oC (-12)) else oC (-11)
def gLeft (w : Nat → Int32) : Int32 := 480 - w 1
def gGo (w : Nat → Int32) (s : Nat) (h way : Int32) : Nat → Int32 := upd (upd (upd (upd w (17 + 9 * s + 2) (w (17 + 9 * s + 2) + way)) (17 + 9 * s + 8) (w (17 + 9 * s + 8) + way)) 1 (w 1 + way)) (17 + 9 * s + 1) h
def gGoR (w : Nat → Int32) (s : Nat) (h : Int32) : OpR := if 100 < gSl w s 2 + iabs (h - gSl w s 1) then oR 2 (gSl w s 2 + iabs (h - gSl w s 1) - 100) else if gLeft w < iabs (h - gSl w s 1) then oR 3 (gLeft w) else oK (gSl w s 2 + iabs (h - gSl w s 1)) (gGo w s h (iabs (h - gSl w s 1)))
def oGoes (w : Nat → Int32) (s h : Int32) : OpR := if isS w s = true ∧ isH h = true then gGoR w (tn s) h else oC (-11)
def gRenR (w : Nat → Int32) (s : Nat) : OpR := if gSl w s 1 = 0 then (if w 4 < 6 then oR 8 (6 - w 4) else oK (gSl w s 2) (upd (gSpend w 6) (17 + 9 * s + 2) 0)) else oR 4 (gSl w s 1)
def oRenews (w : Nat → Int32) (s : Int32) : OpR := if isS w s = true then gRenR w (tn s) else oC (-11)
def gPetR (w : Nat → Int32) (s h : Nat) : OpR :=
  if gMd w h < 0 then oR 10 (nI h)
  else if 7 ≤ gMd w h then (if 100 < gSl w s 2 + 10 then oR 2 (gSl w s 2 + 10 - 100) else oK 9 (upd (upd (upd w (17 + 9 * s + 2) (gSl w s 2 + 10)) 13 (w 13 + 1)) (53 + 4 * h + 1) 10))
  else oK (imax 0 (gMd w h - 2)) (upd w (53 + 4 * h + 1) (imax 0 (gMd w h - 2) + 1))
def oPets (w : Nat → Int32) (s : Int32) : OpR := if isS w s = true then gPetR w (tn s) (tn (gSl w (tn s) 1)) else oC (-11)
def gListens (w : Nat → Int32) (s h : Nat) : Bool := decide (gSteps (nI h) + 6 ≤ gSl w s 0 + gTm w h + (if isn (gMd w h) 0 2 = true then 3 else 0))
def gWants (w : Nat → Int32) (s h b : Nat) (p : Int32) : Int32 := if gListens w s h = true then imax 0 (imin (3 - p / 3 + (if w (53 + 4 * h + 3) >>> (nI b &&& 31) &&& 1 = 0 then 1 else 0)) (gSl w s (3 + b))) else 0
def oWould (w : Nat → Int32) (s h b p : Int32) : Int32 := if isS w s = true ∧ isH h = true ∧ isB b = true then (if isP p = true then gWants w (tn s) (tn h) (tn b) p else -12) else -11
/-- the best house among the first n: the house, how many, how far -/
def gBest (w : Nat → Int32) (s b : Nat) (p : Int32) : Nat → Int32 × Int32 × Int32
  | 0 => (-15, 0, 0)
  | n + 1 => if (if 7 ≤ gMd w n then 0 else gWants w s n b p) = 0 ∨ (if 7 ≤ gMd w n then 0 else gWants w s n b p) < (gBest w s b p n).2.1 ∨ ((if 7 ≤ gMd w n then 0 else gWants w s n b p) = (gBest w s b p n).2.1 ∧ (gBest w s b p n).2.2 ≤ iabs (nI n - gSl w s 1)) then gBest w s b p n else (nI n, (if 7 ≤ gMd w n then 0 else gWants w s n b p), iabs (nI n - gSl w s 1))
def oBest (w : Nat → Int32) (s b p : Int32) : Int32 := if isS w s = true ∧ isB b = true then (if isP p = true then (gBest w (tn s) (tn b) p 20).1 else -12) else -11
def gRing0 (w : Nat → Int32) : Nat → Int32 := upd (upd w 1 (w 1 + 5)) 12 (w 12 + 1)
/-- a sale: n brushes of the bristle b, sold by s at h for p each -/
def gSaleA (w2 : Nat → Int32) (k : Nat) (s h b : Nat) (n p : Int32) : Nat → Int32 := upd (upd (upd (upd (upd w2 k (nI s)) (k + 1) (nI h)) (k + 2) (nI b)) (k + 3) n) (k + 4) p
def gSaleB (w3 : Nat → Int32) (k : Nat) (s h b : Nat) (n : Int32) : Nat → Int32 :=
  let w4 := upd (upd w3 (k + 5) (w3 0)) (k + 6) 0
  let w5 := upd w4 (17 + 9 * s + (3 + b)) (w4 (17 + 9 * s + (3 + b)) + -n)
  upd w5 (17 + 9 * s + 6) (w5 (17 + 9 * s + 6) + n)
def gSaleC (w6 : Nat → Int32) (h b : Nat) (n p : Int32) : Nat → Int32 :=
  let w7 := upd w6 (53 + 4 * h + 2) (w6 (53 + 4 * h + 2) + n)
  let w8 := upd w7 (53 + 4 * h + 3) (w7 (53 + 4 * h + 3) ||| (1 : Int32) <<< (nI b &&& 31))
  let w9 := upd w8 6 (w8 6 + n)
  let wa := upd w9 4 (w9 4 + n * p)
  upd wa 9 (wa 9 + n * p)
def gSale (w : Nat → Int32) (s h b : Nat) (n p : Int32) : Nat → Int32 :=
  gSaleC (gSaleB (gSaleA (upd (gCalm w h 1) 3 (w 3 + 1)) (133 + 7 * tn (w 3)) s h b n p) (133 + 7 * tn (w 3)) s h b n) h b n p
def gRingR (w : Nat → Int32) (s h b : Nat) (p : Int32) : OpR :=
  if 7 ≤ gMd w h then oR 9 (gMd w h)
  else if gLeft w < 5 then oR 3 (gLeft w)
  else if gSl w s (3 + b) = 0 then oR 7 0
  else if w 3 = 40 then oR 1 40
  else if gListens w s h = true then (if gWants w s h b p = 0 then oK 0 (gRing0 w) else oK (gWants w s h b p) (gSale (gRing0 w) s h b (gWants w s h b p) p))
  else oK 0 (gCalm (gRing0 w) h (-1))
def oRings (w : Nat → Int32) (s b p : Int32) : OpR := if isS w s = true ∧ isB b = true then (if isP p = true then gRingR w (tn s) (tn (gSl w (tn s) 1)) (tn b) p else oC (-12)) else oC (-11)
def isL (w : Nat → Int32) (i : Int32) : Bool := isn i 0 (w 3 - 1)
/-- a sale's cell -/
def gSa (w : Nat → Int32) (i k : Nat) : Int32 := w (133 + 7 * i + k)
def gBack (w : Nat → Int32) (i s h b : Nat) : Nat → Int32 :=
  let n := gSa w i 3
  let y := n * gSa w i 4
  let f := imin n (12 - gSl w s (3 + b))
  let w1 := upd w (17 + 9 * s + (3 + b)) (w (17 + 9 * s + (3 + b)) + f)
  let w2 := upd w1 (17 + 9 * s + 7) (w1 (17 + 9 * s + 7) + n)
  let w3 := upd w2 7 (w2 7 + n)
  let w4 := upd w3 8 (w3 8 + (n - f))
  let w5 := upd w4 4 (w4 4 - y)
  let w6 := upd w5 10 (w5 10 + y)
  let w7 := gCalm w6 h 2
  upd w7 (133 + 7 * i + 6) 1
def gBackR (w : Nat → Int32) (i s h b : Nat) : OpR :=
  if gSa w i 6 = 1 then oR 11 (nI i)
  else if gSl w s 1 = nI h then
    (if 7 < w 0 - gSa w i 5 then oR 13 (w 0 - gSa w i 5)
     else if w 4 < gSa w i 3 * gSa w i 4 then oR 8 (gSa w i 3 * gSa w i 4 - w 4)
     else oK (gSa w i 3 * gSa w i 4) (gBack w i s h b))
  else oR 12 (nI h)
def oBack (w : Nat → Int32) (i : Int32) : OpR := if isL w i = true then gBackR w (tn i) (tn (gSa w (tn i) 0)) (tn (gSa w (tn i) 1)) (tn (gSa w (tn i) 2)) else oC (-11)
def gPass1 (w : Nat → Int32) (h : Nat) : Nat → Int32 :=
  let w1 := if 5 < gMd w h then upd w (53 + 4 * h + 1) (w (53 + 4 * h + 1) - 1) else w
  let w2 := if isn (gMd w h) 0 4 = true then upd w1 (53 + 4 * h + 1) (w1 (53 + 4 * h + 1) + 1) else w1
  if gTm w2 h < 5 then gCalm w2 h 1 else w2
def gPassN (w : Nat → Int32) : Nat → Nat → Int32
  | 0 => w
  | n + 1 => gPass1 (gPassN w n) n
def gDay (w : Nat → Int32) : Nat → Int32 := gPassN (upd (upd w 0 (w 0 + 1)) 1 0) 20
def oDay (w : Nat → Int32) : OpR := oK (gDay w 0) (gDay w)
/-- what every state of a company is -/
def Inv (D : Int) (w : Nat → Int32) : Prop :=
  (0 ≤ (w 0).toInt ∧ (w 0).toInt ≤ D) ∧ (0 ≤ (w 1).toInt ∧ (w 1).toInt ≤ 480) ∧ (0 ≤ (w 2).toInt ∧ (w 2).toInt ≤ 4) ∧ (0 ≤ (w 3).toInt ∧ (w 3).toInt ≤ 40) ∧
  (∀ b : Nat, b < 3 → 0 ≤ (w (14 + b)).toInt ∧ (w (14 + b)).toInt ≤ 200) ∧
  (∀ s : Nat, (s : Int) < (w 2).toInt → (0 ≤ (gSl w s 0).toInt ∧ (gSl w s 0).toInt ≤ 9) ∧ (0 ≤ (gSl w s 1).toInt ∧ (gSl w s 1).toInt ≤ 19) ∧ (0 ≤ (gSl w s 2).toInt ∧ (gSl w s 2).toInt ≤ 100) ∧ ∀ b : Nat, b < 3 → 0 ≤ (gSl w s (3 + b)).toInt ∧ (gSl w s (3 + b)).toInt ≤ 12) ∧
  (∀ h : Nat, h < 20 → (0 ≤ (gTm w h).toInt ∧ (gTm w h).toInt ≤ 9) ∧ (0 ≤ (w (53 + 4 * h + 1)).toInt ∧ (w (53 + 4 * h + 1)).toInt ≤ 10) ∧ (0 ≤ (w (53 + 4 * h + 3)).toInt ∧ (w (53 + 4 * h + 3)).toInt ≤ 7)) ∧
  (∀ i : Nat, (i : Int) < (w 3).toInt → (0 ≤ (gSa w i 0).toInt ∧ (gSa w i 0).toInt < (w 2).toInt) ∧ (0 ≤ (gSa w i 1).toInt ∧ (gSa w i 1).toInt ≤ 19) ∧ (0 ≤ (gSa w i 2).toInt ∧ (gSa w i 2).toInt ≤ 2) ∧ (0 ≤ (gSa w i 3).toInt ∧ (gSa w i 3).toInt ≤ 4) ∧ (1 ≤ (gSa w i 4).toInt ∧ (gSa w i 4).toInt ≤ 20) ∧ (gSa w i 6 = 0 ∨ gSa w i 6 = 1))
