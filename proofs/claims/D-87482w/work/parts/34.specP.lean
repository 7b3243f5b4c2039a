/-! ===== plates and jobs, specified ===== -/
theorem ix_0 : ix 0 = 0 := rfl
theorem le_pred {n : Nat} (h : n < 2147483648) (x : Int32) : x ≤ nI n - 1 ↔ x < nI n := by
  have h1 : (nI n - 1).toInt = (n : Int) - 1 := by
    rw [Int32.toInt_sub, nI_toInt h, show (1 : Int32).toInt = 1 from rfl]
    exact Jvm.LawKit.bmod32 (by omega) (by omega)
  rw [Int32.le_iff_toInt_le, Int32.lt_iff_toInt_lt, h1, nI_toInt h]
  omega
theorem toI64_le {x y : Int32} : x.toInt64 ≤ y.toInt64 ↔ x ≤ y := by
  rw [Int64.le_iff_toInt_le, Int32.toInt_toInt64, Int32.toInt_toInt64, Int32.le_iff_toInt_le]
theorem in_of {x : Int32} {n : Nat} (h : n < 2147483648) (h0 : 0 ≤ x) (h1 : x < nI n) : ∃ j, j < n ∧ x = nI j :=
  in_lt n (nI_toInt h) (Int32.not_lt.mpr h0) h1
theorem in_oc {x c : Int32} (n : Nat) (hc : c.toInt = n) (h0 : 0 ≤ x) (h1 : x ≤ c) : ∃ j, j ≤ n ∧ x = nI j := in_le n hc (Int32.not_lt.mpr h0) h1
/-- which printing a copy is of -/
def prN (f : Nat → Int32) (n : Int32) : Nat → Nat
  | 0 => 0
  | p + 1 => if f p ≤ n then p else prN f n p
/-- what a row was cast last, of the first k -/
def sayN (row num : Nat → Int32) (r : Int32) : Nat → Int32
  | 0 => 0
  | k + 1 => if row k = r then num k else sayN row num r k
/-- the last told of a row by a day, of the first k -/
def lastN (row day : Nat → Int32) (r d : Int32) : Nat → Int32
  | 0 => -1
  | k + 1 => if row k = r ∧ day k ≤ d then nI k else lastN row day r d k
def spSay (p : Nat) (r : Int32) (ς : Tw) : Int32 := sayN (ς.2.2.1 83) (ς.2.2.1 84) r (ix (ς.2.2.1 86 p))
def spBadRow (p : Nat) (d : Int32) (ς : Tw) (r : Nat) : Int32 :=
  if 0 ≤ lastN (ς.2.2.1 88) (ς.2.2.1 87) (nI r) d (ix (ς.1 81)) ∧ ς.2.2.1 89 (ix (lastN (ς.2.2.1 88) (ς.2.2.1 87) (nI r) d (ix (ς.1 81)))) ≠ spSay p (nI r) ς then 1 else 0
def wrongN (p : Nat) (d : Int32) (ς : Tw) : Nat → Int32
  | 0 => 0
  | r + 1 => wrongN p d ς r + spBadRow p d ς r
def spWrong (p : Nat) (d : Int32) (ς : Tw) : Int32 := wrongN p d ς 40
/-- copies of a printing -/
def spOf (p : Nat) (ς : Tw) : Int32 := (if nI (p + 1) < ς.1 79 then ς.2.2.1 85 (p + 1) else ς.1 80 + 1) - ς.2.2.1 85 p
def badN (d : Int32) (ς : Tw) : Nat → Int32
  | 0 => 0
  | p + 1 => if 0 < spWrong p d ς then badN d ς p + spOf p ς else badN d ς p
abbrev spRow (r : Int32) : Prop := 0 ≤ r ∧ r ≤ 39
abbrev spNum (v : Int32) : Prop := -1000000000 ≤ v ∧ v ≤ 1000000000
abbrev spDay (d : Int32) : Prop := 0 ≤ d ∧ d ≤ 9999
abbrev spCopy (n : Int32) (ς : Tw) : Prop := 1 ≤ n ∧ n ≤ ς.1 80
def sp_cast (d r v : Int32) (ς : Tw) : Int32 × Tw :=
  if ¬ spRow r then (0, bE ς 2) else if ¬ (spDay d ∧ spNum v) then (0, bE ς 5) else if ς.1 78 = 100 then (0, bE ς 7) else if d < ς.1 77 then (0, bE ς 12)
  else (1, tI (tI (tA (tA (b0 ς) 83 (upd (ς.2.2.1 83) (ix (ς.1 78)) r)) 84 (upd (ς.2.2.1 84) (ix (ς.1 78)) v)) 78 (ς.1 78 + 1)) 77 d)
def sp_tell (d r v : Int32) (ς : Tw) : Int32 × Tw :=
  if ¬ spRow r then (0, bE ς 2) else if ¬ (spDay d ∧ spNum v) then (0, bE ς 5) else if ς.1 81 = 60 then (0, bE ς 7) else if d < ς.1 77 then (0, bE ς 12)
  else (1, tI (tI (tA (tA (tA (b0 ς) 87 (upd (ς.2.2.1 87) (ix (ς.1 81)) d)) 88 (upd (ς.2.2.1 88) (ix (ς.1 81)) r)) 89 (upd (ς.2.2.1 89) (ix (ς.1 81)) v)) 81 (ς.1 81 + 1)) 77 d)
def sp_print (d n : Int32) (ς : Tw) : Int32 × Tw :=
  if ¬ (spDay d ∧ (1 ≤ n ∧ n ≤ 1000)) then (-1, bE ς 5) else if ς.1 79 = 20 then (-1, bE ς 7) else if d < ς.1 77 then (-1, bE ς 12)
  else (ς.1 80 + n, tI (tI (tI (tA (tA (b0 ς) 85 (upd (ς.2.2.1 85) (ix (ς.1 79)) (ς.1 80 + 1))) 86 (upd (ς.2.2.1 86) (ix (ς.1 79)) (ς.1 78))) 79 (ς.1 79 + 1)) 80 (ς.1 80 + n)) 77 d)
def sp_says (n r : Int32) (ς : Tw) : Int32 × Tw :=
  if ¬ spRow r then (-1, bE ς 2) else if ¬ spCopy n ς then (-1, bE ς 8) else (spSay (prN (ς.2.2.1 85) n (ix (ς.1 79))) r ς, b0 ς)
def sp_wrong (n d : Int32) (ς : Tw) : Int32 × Tw :=
  if ¬ spDay d then (-1, bE ς 5) else if ¬ spCopy n ς then (-1, bE ς 8) else (spWrong (prN (ς.2.2.1 85) n (ix (ς.1 79))) d ς, b0 ς)
def sp_bad (d : Int32) (ς : Tw) : Int32 × Tw :=
  if ¬ spDay d then (-1, bE ς 5) else (badN d ς (ix (ς.1 79)), b0 ς)
def InvP (ς : Tw) : Prop := ∃ C P T K : Nat, ∃ F : Nat → Nat, C ≤ 100 ∧ ς.1 78 = nI C ∧ P ≤ 20 ∧ ς.1 79 = nI P ∧ T ≤ 60 ∧ ς.1 81 = nI T ∧ ς.1 80 = nI K ∧ F 0 = 1 ∧ F P = K + 1 ∧ (∀ p, p < P → F p < F (p + 1) ∧ F (p + 1) ≤ F p + 1000 ∧ ς.2.2.1 85 p = nI (F p)) ∧ ∀ p, p < P → ∃ c, c ≤ C ∧ ς.2.2.1 86 p = nI c
theorem InvP.big {F : Nat → Nat} {P : Nat} (h0 : F 0 = 1) (h : ∀ p, p < P → F p < F (p + 1) ∧ F (p + 1) ≤ F p + 1000) : ∀ p, p ≤ P → F p ≤ 1 + 1000 * p ∧ p < F p
  | 0, _ => by omega
  | p + 1, hp => by
    have := InvP.big h0 h p (by omega)
    have := h p (by omega)
    omega
/-- a job that may be -/
abbrev spIsJob (x w t : Int32) : Prop := (2 ≤ x ∧ x ≤ 7) ∧ (1 ≤ w ∧ w ≤ 12) ∧ (1 ≤ t ∧ t ≤ 1000)
def sp_job (x w t : Int32) (ς : Tw) : Int32 × Tw :=
  if ¬ spIsJob x w t then (-1, bE ς 5) else if ς.1 82 = 7 then (-1, bE ς 7)
  else (ς.1 82, tI (tA (tA (tA (b0 ς) 90 (upd (ς.2.2.1 90) (ix (ς.1 82)) x)) 91 (upd (ς.2.2.1 91) (ix (ς.1 82)) w)) 92 (upd (ς.2.2.1 92) (ix (ς.1 82)) t)) 82 (ς.1 82 + 1))
def InvJ (ς : Tw) : Prop := ∃ J, J ≤ 7 ∧ ς.1 82 = nI J ∧ ∀ j, j < J → ∃ x w t, 2 ≤ x ∧ x ≤ 7 ∧ 1 ≤ w ∧ w ≤ 12 ∧ 1 ≤ t ∧ t ≤ 1000 ∧ ς.2.2.1 90 j = nI x ∧ ς.2.2.1 91 j = nI w ∧ ς.2.2.1 92 j = nI t
