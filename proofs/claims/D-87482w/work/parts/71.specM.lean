/-! ===== the mill, specified ===== -/
abbrev spOver (x y : Int64) : Prop := ¬ x = 0 ∧ 999999999999 / abL x < abL y
/-- the numbers a card takes -/
def spX (ς : Tw) (k : Nat) : Int64 := ς.2.2.2 58 (ix (ς.2.2.1 44 k))
def spY (ς : Tw) (k : Nat) : Int64 := ς.2.2.2 58 (ix (ς.2.2.1 45 k))
/-- what a card would raise -/
def spAlm (ς : Tw) (k : Nat) : Int32 :=
  if ς.2.2.1 43 k = 1 then (if 999999999999 < abL (spX ς k + spY ς k) then 1 else 0) else if ς.2.2.1 43 k = 2 then (if 999999999999 < abL (spX ς k - spY ς k) then 1 else 0)
  else if ς.2.2.1 43 k = 3 then (if spOver (spX ς k) (spY ς k) then 1 else 0) else if ς.2.2.1 43 k = 4 then (if spY ς k = 0 then 2 else 0) else if ς.2.2.1 43 k = 5 then (if ς.1 62 = 40 then 3 else 0) else 0
def spUp (v : Int64) : Int32 := if v < 0 then 1 else 0
/-- a result comes into its place -/
def spComes (ς : Tw) (k : Nat) (v : Int64) : Tw := tI (tB ς 58 (vp_updL (ς.2.2.2 58) (ix (ς.2.2.1 46 k)) v)) 61 (spUp v)
def spCr (ς : Tw) (n : Int32) : Tw := tI ς 63 (ς.1 63 + n)
def spRest (Z : Tw) (d : Nat) (v : Int64) : Tw := tB Z 58 (vp_updL (Z.2.2.2 58) d v)
/-- a jump is made -/
def spIs (ς : Tw) (k : Nat) : Bool := decide (ς.2.2.1 48 k = 0) || decide ((ς.2.2.1 48 k = 1 ∧ ς.1 61 = 1) ∨ (¬ ς.2.2.1 48 k = 1 ∧ ς.1 61 = 0))
/-- one card done: the next one, the state -/
def spDoes (ς : Tw) (k : Nat) : Nat × Tw :=
  if ς.2.2.1 43 k = 0 then (k + 1, spCr (tB ς 58 (vp_updL (ς.2.2.2 58) (ix (ς.2.2.1 44 k)) (ς.2.2.2 56 k))) 1)
  else if ς.2.2.1 43 k = 1 then (k + 1, spCr (spComes ς k (spX ς k + spY ς k)) 2) else if ς.2.2.1 43 k = 2 then (k + 1, spCr (spComes ς k (spX ς k - spY ς k)) 2)
  else if ς.2.2.1 43 k = 3 then (k + 1, spComes (spCr ς (2 + spFew (abL (spX ς k)))) k (spX ς k * spY ς k))
  else if ς.2.2.1 43 k = 4 then (k + 1, spRest (spComes (spCr ς (3 + spFew (abL (spX ς k / spY ς k)))) k (spX ς k / spY ς k)) (ix (ς.2.2.1 47 k)) (spX ς k - spX ς k / spY ς k * spY ς k))
  else if ς.2.2.1 43 k = 5 then (k + 1, spCr (tI (tB ς 59 (vp_updL (ς.2.2.2 59) (ix (ς.1 62)) (spX ς k))) 62 (ς.1 62 + 1)) 1)
  else if ς.2.2.1 43 k = 6 then (if spIs ς k = true then k - ix (ς.2.2.1 44 k) else k + 1, spCr ς (if spIs ς k = true then ς.2.2.1 44 k else 0))
  else (if spIs ς k = true then k + ix (ς.2.2.1 44 k) else k + 1, ς)
/-- the mill runs from card k on, n cards at most -/
def runN : Nat → Nat → Tw → Tw
  | 0, _, ς => ς
  | n + 1, k, ς => if ¬ (ς.1 64 = 0 ∧ nI k < ς.1 41) then ς else if ς.1 66 = 5000 then tI (tI ς 64 4) 65 (nI k) else if 0 < spAlm ς k then tI (tI ς 64 (spAlm ς k)) 65 (nI k)
    else runN n (spDoes (tI (tI ς 64 0) 66 (ς.1 66 + 1)) k).1 (spDoes (tI (tI ς 64 0) 66 (ς.1 66 + 1)) k).2
def run0 (ς : Tw) : Tw := tI (tI (tI (tI (tI (tI (tI (tB (b0 ς) 58 (zroL (ς.2.2.2 58) 0 20)) 60 1) 61 0) 62 0) 63 0) 64 0) 65 (-1)) 66 0
def sp_run (ς : Tw) : Int32 × Tw := if ς.1 41 < 0 then (-1, bE ς 8) else ((runN 5002 0 (run0 ς)).1 62, runN 5002 0 (run0 ς))
