/-! ===== cards: the reading of the text, specified over tokens ===== -/
/-- what is wrong: its kind, its place -/
abbrev Er : Type := Nat × Nat
/-- a card: kind, four places (a jump's count first), when, a whole number, a jump's place -/
abbrev Cd : Type := Nat × Nat × Nat × Nat × Nat × Nat × Int64 × Nat
def bdT (t : Tok) : Er := (if t.1 = 4 then 1 else 2, t.2.1)
theorem bdT_b (t : Tok) : 0 < (bdT t).1 ∧ (bdT t).1 ≤ 5 := by
  unfold bdT; split <;> exact ⟨Nat.lt_of_lt_of_le Nat.zero_lt_one (Nat.le_of_ble_eq_true rfl), Nat.le_of_ble_eq_true rfl⟩
def tvN (t : Tok) : Nat := t.2.2.2.toNatClampNeg
abbrev wdT (t : Tok) (w : Int64) : Prop := t.1 = 1 ∧ t.2.2.2 = w
abbrev sgT (t : Tok) (c : Int64) : Prop := t.1 = 3 ∧ t.2.2.2 = c
/-- a card's kind by its first word; 8: none -/
def knT (t : Tok) : Nat :=
  if wdT t (spW 112 117 116 0 0) then 0 else if wdT t (spW 97 100 100 0 0) then 1 else if wdT t (spW 115 117 98 0 0) then 2 else if wdT t (spW 109 117 108 0 0) then 3
  else if wdT t (spW 100 105 118 0 0) then 4 else if wdT t (spW 112 114 105 110 116) then 5 else if wdT t (spW 98 97 99 107 0) then 6 else if wdT t (spW 111 110 0 0 0) then 7 else 8
def bdE {α β : Type} (x : Er ⊕ α) (g : α → Er ⊕ β) : Er ⊕ β := match x with
  | .inl e => .inl e
  | .inr a => g a
section
variable (f : Nat → Int32) (n : Nat)
def nxT (t : Tok) : Tok := tokN f n t.2.2.1
/-- a number from lo to hi -/
def pzCnt (lo hi : Nat) (t : Tok) : Er ⊕ (Nat × Tok) := if ¬ t.1 = 2 then .inl (bdT t) else if lN lo ≤ t.2.2.2 ∧ t.2.2.2 ≤ lN hi then .inr (tvN t, nxT f n t) else .inl (4, t.2.1)
/-- a whole number, its sign seen -/
def pzWhM (m : Bool) (t : Tok) : Er ⊕ (Int64 × Tok) := if ¬ t.1 = 2 then .inl (bdT t) else .inr (if m = true then -t.2.2.2 else t.2.2.2, nxT f n t)
def pzWho (t : Tok) : Er ⊕ (Int64 × Tok) := if sgT t 45 then pzWhM f n true (nxT f n t) else pzWhM f n false t
/-- behind 'if' -/
def pzIf (a : Nat) (t : Tok) : Er ⊕ (Nat × Nat × Tok) :=
  if wdT t (spW 117 112 0 0 0) then .inr (a, 1, nxT f n t) else if wdT t (spW 100 111 119 110 0) then .inr (a, 2, nxT f n t) else .inl (bdT t)
def pzJm2 (a : Nat) (t : Tok) : Er ⊕ (Nat × Nat × Tok) := if wdT t (spW 105 102 0 0 0) then pzIf f n a (nxT f n t) else .inr (a, 0, t)
def pzJmp (t : Tok) : Er ⊕ (Nat × Nat × Tok) := bdE (pzCnt f n 1 40 t) (fun x => pzJm2 f n x.1 x.2)
/-- a card's end -/
def pzEnd (c : Cd) (t : Tok) : Er ⊕ (Cd × Tok) := if sgT t 59 then .inr (c, nxT f n t) else .inl (bdT t)
def pz168 (K a b c : Nat) (v : Int64) (t : Tok) : Er ⊕ (Cd × Tok) := if K = 4 then bdE (pzCnt f n 0 19 t) (fun x => pzEnd f n (K, a, b, c, x.1, 0, v, 0) x.2) else pzEnd f n (K, a, b, c, 0, 0, v, 0) t
def pz143 (K a b : Nat) (v : Int64) (t : Tok) : Er ⊕ (Cd × Tok) := if 1 ≤ K ∧ K ≤ 4 then bdE (pzCnt f n 0 19 t) (fun x => pz168 f n K a b x.1 v x.2) else pz168 f n K a b 0 v t
def pz118 (K a : Nat) (v : Int64) (t : Tok) : Er ⊕ (Cd × Tok) := if 1 ≤ K ∧ K ≤ 4 then bdE (pzCnt f n 0 19 t) (fun x => pz143 f n K a x.1 v x.2) else pz143 f n K a 0 v t
def pz109 (K a : Nat) (t : Tok) : Er ⊕ (Cd × Tok) := if K = 0 then bdE (pzWho f n t) (fun x => pz118 f n K a x.1 x.2) else pz118 f n K a 0 t
def pz96 (K : Nat) (t : Tok) : Er ⊕ (Cd × Tok) := bdE (pzCnt f n 0 19 t) (fun x => pz109 f n K x.1 x.2)
def pz88 (K : Nat) (t : Tok) : Er ⊕ (Cd × Tok) := bdE (pzJmp f n t) (fun x => pzEnd f n (K, x.1, 0, 0, 0, x.2.1, 0, t.2.1) x.2.2)
/-- a card, m read already -/
def pzCard (m : Nat) (t : Tok) : Er ⊕ (Cd × Tok) := if knT t = 8 then .inl (bdT t) else if m = 40 then .inl (3, t.2.1) else if knT t = 6 ∨ knT t = 7 then pz88 f n (knT t) (nxT f n t) else pz96 f n (knT t) (nxT f n t)
def pzAll : Nat → List Cd → Tok → Er ⊕ List Cd
  | 0, cs, _ => .inr cs
  | m + 1, cs, t => if t.1 = 0 then .inr cs else bdE (pzCard f n cs.length t) (fun x => pzAll m (cs ++ [x.1]) x.2)
end
/-- a jump out of the cards -/
abbrev badJ (m k : Nat) (c : Cd) : Prop := (c.1 = 6 ∧ k < c.2.1) ∨ (c.1 = 7 ∧ m < k + c.2.1)
def pzCk (cs : List Cd) : Nat → Nat → Option Er
  | 0, _ => none
  | q + 1, k => match cs[k]? with
    | none => none
    | some c => if badJ cs.length k c then some (5, c.2.2.2.2.2.2.2) else pzCk cs q (k + 1)
def pzFin (cs : List Cd) : Er ⊕ List Cd := match pzCk cs 41 0 with
  | some e => .inl e
  | none => .inr cs
def pars (f : Nat → Int32) (n : Nat) : Er ⊕ List Cd := bdE (pzAll f n 501 [] (tokN f n 0)) pzFin
/-! tokens: where they lie -/
def TkW (n : Nat) (t : Tok) : Prop := t.1 ≤ 4 ∧ t.2.1 ≤ t.2.2.1 ∧ t.2.2.1 ≤ n ∧ (¬ t.1 = 0 → t.2.1 < t.2.2.1)
theorem wdN_le {f : Nat → Int32} {n a : Nat} : ∀ (m e : Nat) (w : Int64), e ≤ n → e ≤ (wdN f n a m e w).1 ∧ (wdN f n a m e w).1 ≤ n
  | 0, e, w, h => ⟨Nat.le_refl _, h⟩
  | m + 1, e, w, h => by
    rw [wdN]
    split
    · rename_i h1
      have := lk_lt (n := n) (Or.inl h1)
      have ih := wdN_le (f := f) (n := n) (a := a) m (e + 1) (if e < a + 12 then w * 32 + (lkN f n e).toInt64 - 96 else -1) (by omega)
      exact ⟨by omega, ih.2⟩
    · exact ⟨Nat.le_refl _, h⟩
theorem nuN_le {f : Nat → Int32} {n a : Nat} : ∀ (m e : Nat) (w : Int64), e ≤ n → e ≤ (nuN f n a m e w).1 ∧ (nuN f n a m e w).1 ≤ n
  | 0, e, w, h => ⟨Nat.le_refl _, h⟩
  | m + 1, e, w, h => by
    rw [nuN]
    split
    · rename_i h1
      have := lk_lt (n := n) (Or.inr h1)
      have ih := nuN_le (f := f) (n := n) (a := a) m (e + 1) (if e < a + 12 then 10 * w + (lkN f n e).toInt64 - 48 else w) (by omega)
      exact ⟨by omega, ih.2⟩
    · exact ⟨Nat.le_refl _, h⟩
theorem tokN_w {f : Nat → Int32} {n p : Nat} (hp : p ≤ n) : TkW n (tokN f n p) ∧ p ≤ (tokN f n p).2.1 := by
  have hs := skN_le (f := f) (n := n) 501 p hp
  unfold tokN
  generalize skN f n 501 p = a at *
  unfold tokA
  split
  · exact ⟨⟨Nat.zero_le _, Nat.le_refl _, hs.2, fun z => absurd rfl z⟩, hs.1⟩
  · rename_i h1
    split
    · rename_i h2
      have h3 : (wdN f n a 501 a 0) = wdN f n a 500 (a + 1) (if a < a + 12 then 0 * 32 + (lkN f n a).toInt64 - 96 else -1) := by rw [wdN, if_pos h2]
      have h4 := wdN_le (f := f) (n := n) (a := a) 500 (a + 1) (if a < a + 12 then 0 * 32 + (lkN f n a).toInt64 - 96 else -1) (by omega)
      rw [← h3] at h4
      exact ⟨⟨by show 1 ≤ 4; omega, by show a ≤ (wdN f n a 501 a 0).1; omega, h4.2, fun _ => by show a < (wdN f n a 501 a 0).1; omega⟩, hs.1⟩
    · split
      · rename_i h2
        have h3 : (nuN f n a 501 a 0) = nuN f n a 500 (a + 1) (if a < a + 12 then 10 * 0 + (lkN f n a).toInt64 - 48 else 0) := by rw [nuN, if_pos h2]
        have h4 := nuN_le (f := f) (n := n) (a := a) 500 (a + 1) (if a < a + 12 then 10 * 0 + (lkN f n a).toInt64 - 48 else 0) (by omega)
        rw [← h3] at h4
        exact ⟨⟨by show (if _ then 4 else 2) ≤ 4; split <;> omega, by show a ≤ (nuN f n a 501 a 0).1; omega, h4.2, fun _ => by show a < (nuN f n a 501 a 0).1; omega⟩, hs.1⟩
      · exact ⟨⟨by show (if _ then 3 else 4) ≤ 4; split <;> omega, by show a ≤ a + 1; omega, by show a + 1 ≤ n; omega, fun _ => by show a < a + 1; omega⟩, hs.1⟩
theorem nxT_w {f : Nat → Int32} {n : Nat} {t : Tok} (h : TkW n t) : TkW n (nxT f n t) ∧ t.2.2.1 ≤ (nxT f n t).2.1 := tokN_w h.2.2.1
