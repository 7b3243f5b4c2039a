/-! ===== the same but for some fields; turns, specified ===== -/
/-- the same but for the int fields a, the long fields b, the arrays c and d -/
def Sx (a b c d : List Nat) (τ' τ : Tw) : Prop := (∀ k, k ∉ a → τ'.1 k = τ.1 k) ∧ (∀ k, k ∉ b → τ'.2.1 k = τ.2.1 k) ∧ (∀ k, k ∉ c → τ'.2.2.1 k = τ.2.2.1 k) ∧ (∀ k, k ∉ d → τ'.2.2.2 k = τ.2.2.2 k)
theorem Sx.rf {a b c d : List Nat} {τ : Tw} : Sx a b c d τ τ := ⟨fun _ _ => rfl, fun _ _ => rfl, fun _ _ => rfl, fun _ _ => rfl⟩
theorem Sx.trans {a b c d : List Nat} {τ τ1 τ2 : Tw} (h : Sx a b c d τ τ1) (g : Sx a b c d τ1 τ2) : Sx a b c d τ τ2 :=
  ⟨fun k hk => (h.1 k hk).trans (g.1 k hk), fun k hk => (h.2.1 k hk).trans (g.2.1 k hk), fun k hk => (h.2.2.1 k hk).trans (g.2.2.1 k hk), fun k hk => (h.2.2.2 k hk).trans (g.2.2.2 k hk)⟩
theorem Sx.mono {a b c d a' b' c' d' : List Nat} {τ τ1 : Tw} (h : Sx a b c d τ τ1) (ha : a ⊆ a') (hb : b ⊆ b') (hc : c ⊆ c') (hd : d ⊆ d') : Sx a' b' c' d' τ τ1 :=
  ⟨fun k hk => h.1 k (fun z => hk (ha z)), fun k hk => h.2.1 k (fun z => hk (hb z)), fun k hk => h.2.2.1 k (fun z => hk (hc z)), fun k hk => h.2.2.2 k (fun z => hk (hd z))⟩
theorem Sx.I {a b c d : List Nat} {τ τ1 : Tw} (h : Sx a b c d τ τ1) {k : Nat} (v : Int32) (hk : k ∈ a) : Sx a b c d (tI τ k v) τ1 :=
  ⟨fun j hj => by
    show upd τ.1 k v j = τ1.1 j
    rw [pk_un (fun e => hj (by rw [e]; exact hk))]; exact h.1 j hj, h.2⟩
theorem Sx.L {a b c d : List Nat} {τ τ1 : Tw} (h : Sx a b c d τ τ1) {k : Nat} (v : Int64) (hk : k ∈ b) : Sx a b c d (tL τ k v) τ1 :=
  ⟨h.1, fun j hj => by
    show vp_updL τ.2.1 k v j = τ1.2.1 j
    rw [pk_uLn (fun e => hj (by rw [e]; exact hk))]; exact h.2.1 j hj, h.2.2⟩
theorem Sx.A {a b c d : List Nat} {τ τ1 : Tw} (h : Sx a b c d τ τ1) {k : Nat} (f : Nat → Int32) (hk : k ∈ c) : Sx a b c d (tA τ k f) τ1 :=
  ⟨h.1, h.2.1, fun j hj => by
    show va_up τ.2.2.1 k f j = τ1.2.2.1 j
    rw [va_up_ne _ _ (fun e => hj (by rw [e]; exact hk))]; exact h.2.2.1 j hj, h.2.2.2⟩
theorem Sx.B {a b c d : List Nat} {τ τ1 : Tw} (h : Sx a b c d τ τ1) {k : Nat} (f : Nat → Int64) (hk : k ∈ d) : Sx a b c d (tB τ k f) τ1 :=
  ⟨h.1, h.2.1, h.2.2.1, fun j hj => by
    show va_up τ.2.2.2 k f j = τ1.2.2.2 j
    rw [va_up_ne _ _ (fun e => hj (by rw [e]; exact hk))]; exact h.2.2.2 j hj⟩
theorem Sx.q {a b c d : List Nat} {τ τ1 : Tw} (h : Sx a b c d τ τ1) (ha : (pI.all fun k => !a.contains k) = true) (hc : (pA.all fun k => !c.contains k) = true) (hd : (pB.all fun k => !d.contains k) = true) : Tq τ τ1 := by
  have key : ∀ (l m : List Nat), (l.all fun k => !m.contains k) = true → ∀ k ∈ l, k ∉ m := fun l m h k hk hm => by
    have := List.all_eq_true.mp h k hk
    simp at this
    exact this hm
  exact ⟨fun k hk => h.1 k (key _ _ ha k hk), fun k hk => h.2.2.1 k (key _ _ hc k hk), fun k hk => h.2.2.2 k (key _ _ hd k hk)⟩
/-- what is left of a number behind k figures; its figure k -/
def rsN (v : Int64) : Nat → Int64
  | 0 => v
  | k + 1 => rsN v k / 10
def dgN (v : Int64) (k : Nat) : Int32 := (rsN v k - rsN v k / 10 * 10).toInt32
/-- the least turns of the figures from 13 - m on, with c carried into them; B: what a carry out of all costs -/
def lsB (B : Int32) (d : Nat → Int32) : Nat → Nat → Int32
  | 0, 0 => 0
  | 0, _ + 1 => B
  | m + 1, c => mnI (if 9 < d (12 - m) + nI c then 1000 else d (12 - m) + nI c + lsB B d m 0) (if d (12 - m) + nI c < 1 then 1000 else 10 - (d (12 - m) + nI c) + lsB B d m 1)
def stB (B : Int32) (d : Nat → Int32) (k c : Nat) : Bool := decide (d k + nI c ≤ 9) && decide (d k + nI c + lsB B d (12 - k) 0 = lsB B d (13 - k) c)
theorem stB_iff {B : Int32} {d : Nat → Int32} {k c : Nat} : stB B d k c = true ↔ (d k + nI c ≤ 9 ∧ d k + nI c + lsB B d (12 - k) 0 = lsB B d (13 - k) c) := by
  unfold stB; simp
def cyB (B : Int32) (d : Nat → Int32) : Nat → Nat
  | 0 => 0
  | k + 1 => if stB B d k (cyB B d k) = true then 0 else 1
theorem cyB_le {B : Int32} {d : Nat → Int32} : ∀ k, cyB B d k ≤ 1
  | 0 => Nat.zero_le _
  | k + 1 => by rw [cyB]; split <;> decide
def fgB (B : Int32) (d : Nat → Int32) (k : Nat) : Int32 := if stB B d k (cyB B d k) = true then d k + nI (cyB B d k) else d k + nI (cyB B d k) - 10
def spFew (v : Int64) : Int32 := lsB 1000 (dgN v) 13 0
def sp_turns (v : Int64) (ς : Tw) : Int32 × Tw := if 0 ≤ v ∧ v ≤ 999999999999 then (spFew v, b0 ς) else (-1, bE ς 5)
def sp_turnsAt (v : Int64) (k : Int32) (ς : Tw) : Int32 × Tw := if (0 ≤ v ∧ v ≤ 999999999999) ∧ (0 ≤ k ∧ k ≤ 12) then (fgB 1000 (dgN v) (ix k), b0 ς) else (-1, bE ς 5)
