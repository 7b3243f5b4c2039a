/-! ===== the cards' text, specified: step by step as the twin reads it ===== -/
/-- a byte of the text; behind its end 0 -/
def lkN (f : Nat → Int32) (n k : Nat) : Int32 := if k < n then f k &&& 255 else 0
abbrev isLt (v : Int32) : Prop := 97 ≤ v ∧ v ≤ 122
abbrev isDg (v : Int32) : Prop := 48 ≤ v ∧ v ≤ 57
def spS (w : Int64) (c : Int32) : Int64 := if 0 < c then w * 32 + c.toInt64 - 96 else w
/-- a word of up to five letters as a number -/
def spW (p q r s t : Int32) : Int64 := spS (spS (spS ((p.toInt64 - 96) * 32 + q.toInt64 - 96) r) s) t
def failT (ς : Tw) (a b : Int32) : Tw := if 0 < ς.1 33 then ς else tI (tI ς 33 a) 34 b
def wrongT (ς : Tw) : Tw := failT ς (if ς.1 35 = 4 then 1 else 2) (ς.1 36)
