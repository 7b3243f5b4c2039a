/-! ===== answers, the tape, turns: specified ===== -/
def sp_because (w : Int32) (ς : Tw) : Int32 × Tw :=
  if ¬ (0 ≤ w ∧ w ≤ 3) then (-1, bE ς 5) else if ς.1 22 < 0 then (-1, bE ς 8) else (if w = 0 then ς.1 22 else if w = 1 then ς.1 23 else if w = 2 then ς.1 24 else ς.1 25, b0 ς)
def sp_ran (w : Int32) (ς : Tw) : Int32 × Tw :=
  if ¬ (0 ≤ w ∧ w ≤ 3) then (-1, bE ς 5) else if ς.1 60 = 0 then (-1, bE ς 8) else (if w = 0 then ς.1 63 else if w = 1 then ς.1 64 else if w = 2 then ς.1 65 else ς.1 66, b0 ς)
def sp_printed (k : Int32) (ς : Tw) : Int64 × Tw := if 0 ≤ k ∧ k < ς.1 62 then (ς.2.2.2 59 (ix k), b0 ς) else (-1, bE ς 8)
def sp_place (k : Int32) (ς : Tw) : Int64 × Tw := if ¬ (0 ≤ k ∧ k ≤ 19) then (-1, bE ς 2) else if ς.1 60 = 0 then (-1, bE ς 8) else (ς.2.2.2 58 (ix k), b0 ς)
def sp_right (j w : Int32) (ς : Tw) : Int32 × Tw :=
  if ¬ (0 ≤ w ∧ w ≤ 1) then (-1, bE ς 5) else if ¬ (0 ≤ j ∧ j < ς.1 74) then (-1, bE ς 8) else (if w = 0 then ς.2.2.1 97 (ix j) else ς.2.2.1 98 (ix j), b0 ς)
def sp_fault (w : Int32) (ς : Tw) : Int32 × Tw := (if w = 0 then ς.1 31 else if w = 1 then ς.1 32 else -1, b1 ς)
def InvR (ς : Tw) : Prop := ∃ p q, p ≤ 40 ∧ ς.1 62 = nI p ∧ q ≤ 2 ∧ ς.1 74 = nI q ∧ (ς.1 60 = 0 ∨ ς.1 60 = 1)
/-- a byte of an int, as the tape holds it -/
def byN (v : Int32) (s : Nat) : Int32 := vp_nar .byte (v >>> (nI s &&& 31)).toInt8.toInt32
def layN (f : Nat → Int32) (t : Nat) (v : Int32) : Nat → Int32 := upd (upd (upd (upd f t (byN v 24)) (t + 1) (byN v 16)) (t + 2) (byN v 8)) (t + 3) (byN v 0)
def sp_feed (a b c d e : Int32) (ς : Tw) : Int32 × Tw :=
  if 500 < ς.1 29 + 20 then (-1, b1 ς)
  else (ς.1 29 + 20, tI (tA (b1 ς) 28 (layN (layN (layN (layN (layN (ς.2.2.1 28) (ix (ς.1 29)) a) (ix (ς.1 29) + 4) b) (ix (ς.1 29) + 8) c) (ix (ς.1 29) + 12) d) (ix (ς.1 29) + 16) e)) 29 (ς.1 29 + 20))
def InvF (ς : Tw) : Prop := ∃ t, t ≤ 500 ∧ ς.1 29 = nI t
