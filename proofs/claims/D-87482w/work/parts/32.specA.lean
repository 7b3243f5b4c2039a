/-! ===== numbers at a method's gate ===== -/
theorem in_ge {x c : Int32} (n : Nat) (hc : c.toInt = n) (h0 : ¬ x < 0) (h1 : ¬ c ≤ x) : ∃ j, j < n ∧ x = nI j := by
  obtain ⟨j, hj, rfl⟩ := nI_of h0
  refine ⟨j, ?_, rfl⟩
  rw [Int32.le_iff_toInt_le, nI_toInt hj, hc] at h1
  omega
theorem in_lt {x c : Int32} (n : Nat) (hc : c.toInt = n) (h0 : ¬ x < 0) (h1 : x < c) : ∃ j, j < n ∧ x = nI j := in_ge n hc h0 (Int32.not_le.mpr h1)
theorem in_le {x c : Int32} (n : Nat) (hc : c.toInt = n) (h0 : ¬ x < 0) (h1 : x ≤ c) : ∃ j, j ≤ n ∧ x = nI j := nI_of2 hc h0 h1
theorem in_ngt {x c : Int32} (n : Nat) (hc : c.toInt = n) (h0 : ¬ x < 0) (h1 : ¬ c < x) : ∃ j, j ≤ n ∧ x = nI j := nI_of2 hc h0 (Int32.not_lt.mp h1)
theorem i32_nlt {x y : Int32} (h : ¬ x < y) : y ≤ x := Int32.not_lt.mp h
theorem i32_nle {x y : Int32} (h : ¬ x ≤ y) : y < x := Int32.not_le.mp h
theorem i32_lt {x y : Int32} (h : x < y) : ¬ y ≤ x := Int32.not_le.mpr h
theorem i32_le {x y : Int32} (h : x ≤ y) : ¬ y < x := Int32.not_lt.mpr h
/-- an index -/
def ix (x : Int32) : Nat := x.toNatClampNeg
theorem ix_nI {n : Nat} (h : n < 2147483648) : ix (nI n) = n := nI_clamp h
/-- all below n -/
def allB (p : Nat → Bool) : Nat → Bool
  | 0 => true
  | n + 1 => allB p n && p n
theorem allB_iff {p : Nat → Bool} : ∀ {n : Nat}, allB p n = true ↔ ∀ k, k < n → p k = true
  | 0 => by simp [allB]
  | n + 1 => by
    rw [allB, Bool.and_eq_true, allB_iff]
    constructor
    · intro h k hk
      by_cases e : k = n
      · rw [e]; exact h.2
      · exact h.1 k (by omega)
    · intro h
      exact ⟨fun k hk => h k (by omega), h n (by omega)⟩
/-! ===== what of the twin's state lasts, and when two states are the same in that ===== -/
def pI : List Nat := [0, 5, 22, 23, 24, 25, 29, 31, 32, 41, 60, 61, 62, 63, 64, 65, 66, 74, 77, 78, 79, 80, 81, 82]
def pA : List Nat := [2, 3, 6, 7, 8, 9, 10, 12, 13, 14, 15, 16, 28, 43, 44, 45, 46, 47, 48, 51, 52, 53, 75, 76, 83, 84, 85, 86, 87, 88, 89, 90, 91, 92, 97, 98]
def pB : List Nat := [4, 56, 58, 59]
def Tq (τ ς : Tw) : Prop := (∀ k ∈ pI, τ.1 k = ς.1 k) ∧ (∀ k ∈ pA, τ.2.2.1 k = ς.2.2.1 k) ∧ (∀ k ∈ pB, τ.2.2.2 k = ς.2.2.2 k)
theorem Tq.rf {τ : Tw} : Tq τ τ := ⟨fun _ _ => rfl, fun _ _ => rfl, fun _ _ => rfl⟩
theorem Tq.sym {τ ς : Tw} (h : Tq τ ς) : Tq ς τ := ⟨fun k hk => (h.1 k hk).symm, fun k hk => (h.2.1 k hk).symm, fun k hk => (h.2.2 k hk).symm⟩
theorem Tq.trans {τ ς υ : Tw} (h : Tq τ ς) (h2 : Tq ς υ) : Tq τ υ := ⟨fun k hk => (h.1 k hk).trans (h2.1 k hk), fun k hk => (h.2.1 k hk).trans (h2.2.1 k hk), fun k hk => (h.2.2 k hk).trans (h2.2.2 k hk)⟩
theorem Tq.I {τ ς : Tw} (h : Tq τ ς) (k : Nat) (v : Int32) : Tq (tI τ k v) (tI ς k v) := by
  refine ⟨fun j hj => ?_, h.2.1, h.2.2⟩
  show upd τ.1 k v j = upd ς.1 k v j
  by_cases e : j = k
  · subst e; rw [pk_us, pk_us]
  · rw [pk_un e, pk_un e]; exact h.1 j hj
/-- a field that doesn't last -/
theorem Tq.i {τ ς : Tw} (h : Tq τ ς) (k : Nat) (v : Int32) (hk : k ∉ pI) : Tq (tI τ k v) ς := by
  refine ⟨fun j hj => ?_, h.2.1, h.2.2⟩
  show upd τ.1 k v j = ς.1 j
  have e : j ≠ k := fun e => hk (by rw [← e]; exact hj)
  rw [pk_un e]
  exact h.1 j hj
theorem Tq.l {τ ς : Tw} (h : Tq τ ς) (k : Nat) (v : Int64) : Tq (tL τ k v) ς := h
theorem Tq.A {τ ς : Tw} (h : Tq τ ς) (k : Nat) (f : Nat → Int32) : Tq (tA τ k f) (tA ς k f) := by
  refine ⟨h.1, fun j hj => ?_, h.2.2⟩
  show va_up τ.2.2.1 k f j = va_up ς.2.2.1 k f j
  by_cases e : j = k
  · subst e; rw [va_up_self, va_up_self]
  · rw [va_up_ne _ _ e, va_up_ne _ _ e]; exact h.2.1 j hj
theorem Tq.a {τ ς : Tw} (h : Tq τ ς) (k : Nat) (f : Nat → Int32) (hk : k ∉ pA) : Tq (tA τ k f) ς := by
  refine ⟨h.1, fun j hj => ?_, h.2.2⟩
  show va_up τ.2.2.1 k f j = ς.2.2.1 j
  have e : j ≠ k := fun e => hk (by rw [← e]; exact hj)
  rw [va_up_ne _ _ e]
  exact h.2.1 j hj
theorem Tq.B {τ ς : Tw} (h : Tq τ ς) (k : Nat) (f : Nat → Int64) : Tq (tB τ k f) (tB ς k f) := by
  refine ⟨h.1, h.2.1, fun j hj => ?_⟩
  show va_up τ.2.2.2 k f j = va_up ς.2.2.2 k f j
  by_cases e : j = k
  · subst e; rw [va_up_self, va_up_self]
  · rw [va_up_ne _ _ e, va_up_ne _ _ e]; exact h.2.2 j hj
theorem Tq.b {τ ς : Tw} (h : Tq τ ς) (k : Nat) (f : Nat → Int64) (hk : k ∉ pB) : Tq (tB τ k f) ς := by
  refine ⟨h.1, h.2.1, fun j hj => ?_⟩
  show va_up τ.2.2.2 k f j = ς.2.2.2 j
  have e : j ≠ k := fun e => hk (by rw [← e]; exact hj)
  rw [va_up_ne _ _ e]
  exact h.2.2 j hj
/-- an operation's end in the twin: its answer and its state, as the specification says -/
def TQi (pre post : List ACell) (r : Int32 × Tw) : Qfun := fun v M' => ∃ τ', M' = TW pre τ' post ∧ v = some (.int r.1) ∧ Tq τ' r.2
def TQl (pre post : List ACell) (r : Int64 × Tw) : Qfun := fun v M' => ∃ τ', M' = TW pre τ' post ∧ v = some (.long r.1) ∧ Tq τ' r.2
theorem TQi.of {pre post : List ACell} {r : Int32 × Tw} {v : Int32} {τ' : Tw} (e : r = (v, τ')) : TQi pre post r (some (.int v)) (TW pre τ' post) := by
  subst e; exact ⟨_, rfl, rfl, Tq.rf⟩
theorem TQl.of {pre post : List ACell} {r : Int64 × Tw} {v : Int64} {τ' : Tw} (e : r = (v, τ')) : TQl pre post r (some (.long v)) (TW pre τ' post) := by
  subst e; exact ⟨_, rfl, rfl, Tq.rf⟩
theorem TQi.q {pre post : List ACell} {r : Int32 × Tw} {v : Int32} {τ' ς : Tw} (e : r = (v, ς)) (h : Tq τ' ς) : TQi pre post r (some (.int v)) (TW pre τ' post) := by
  subst e; exact ⟨_, rfl, rfl, h⟩
theorem TQl.q {pre post : List ACell} {r : Int64 × Tw} {v : Int64} {τ' ς : Tw} (e : r = (v, ς)) (h : Tq τ' ς) : TQl pre post r (some (.long v)) (TW pre τ' post) := by
  subst e; exact ⟨_, rfl, rfl, h⟩
/-- nothing thrown, all well -/
def b1 (ς : Tw) : Tw := tI ς 1 0
def b0 (ς : Tw) : Tw := tI (tI ς 1 0) 0 0
/-- refused -/
def bE (ς : Tw) (w : Int32) : Tw := tI (tI (tI ς 1 0) 0 0) 0 w
/-! ===== trays, specified ===== -/
def spT (t : Int32) (ς : Tw) : Int32 := if t < 0 ∨ 4 ≤ t then 1 else if ς.2.2.1 3 (ix t) < 0 then 3 else 0
def spP (t k : Int32) (ς : Tw) : Int32 := if 0 < spT t ς then spT t ς else if k < 0 ∨ ς.2.2.1 3 (ix t) ≤ k then 4 else 0
def spCut (s : Int32) (v : Int64) : Int64 := if s = 0 then v.toInt32.toInt8.toInt32.toInt64 else if s = 1 then v.toInt32.toInt16.toInt32.toInt64 else if s = 2 then v.toInt32.toInt64 else v
def zroL (f : Nat → Int64) (a n : Nat) : Nat → Int64 := fun k => if a ≤ k ∧ k < a + n then 0 else f k
theorem zroL_0 (f : Nat → Int64) (a : Nat) : zroL f a 0 = f := by
  funext k; unfold zroL; rw [if_neg (by omega)]
theorem zroL_s (f : Nat → Int64) (a n : Nat) : zroL (vp_updL f a 0) (a + 1) n = zroL f a (n + 1) := by
  funext k
  unfold zroL vp_updL
  by_cases h : k = a
  · subst h
    rw [if_neg (by omega), if_pos rfl, if_pos (by omega)]
  · by_cases h2 : a + 1 ≤ k ∧ k < a + 1 + n
    · rw [if_pos h2, if_pos (by omega)]
    · rw [if_neg h2, if_neg h, if_neg (by omega)]
def sp_tray (t s n : Int32) (ς : Tw) : Int32 × Tw :=
  if t < 0 ∨ 4 ≤ t ∨ s < 0 ∨ 3 < s then (0, bE ς 1) else if 60 < n then (0, bE ς 5) else if n < 0 then (0, bE ς 6)
  else (1, tB (tA (tA (b0 ς) 2 (upd (ς.2.2.1 2) (ix t) s)) 3 (upd (ς.2.2.1 3) (ix t) n)) 4 (zroL (ς.2.2.2 4) (60 * ix t) (ix n)))
def sp_write (t k : Int32) (v : Int64) (ς : Tw) : Int32 × Tw :=
  if 0 < spP t k ς then (0, tI (b1 ς) 0 (spP t k ς)) else (1, tB (tI (b1 ς) 0 (spP t k ς)) 4 (vp_updL (ς.2.2.2 4) (60 * ix t + ix k) (spCut (ς.2.2.1 2 (ix t)) v)))
def sp_read (t k : Int32) (ς : Tw) : Int64 × Tw :=
  if 0 < spP t k ς then (-1, tI (b1 ς) 0 (spP t k ς)) else (ς.2.2.2 4 (60 * ix t + ix k), tI (b1 ς) 0 (spP t k ς))
/-- the trays are as they should be -/
def InvT (ς : Tw) : Prop := ∀ t, t < 4 → (ς.2.2.1 3 t = -1 ∨ ∃ n, n ≤ 60 ∧ ς.2.2.1 3 t = nI n) ∧ ∃ s, s < 4 ∧ ς.2.2.1 2 t = nI s
theorem spT_cases (t : Int32) (ς : Tw) : spT t ς = 1 ∨ spT t ς = 3 ∨ spT t ς = 0 := by
  unfold spT; split
  · exact Or.inl rfl
  · split
    · exact Or.inr (Or.inl rfl)
    · exact Or.inr (Or.inr rfl)
theorem spT_0 {t : Int32} {ς : Tw} (hI : InvT ς) (h : ¬ 0 < spT t ς) : spT t ς = 0 ∧ ∃ j, j < 4 ∧ t = nI j ∧ ∃ n, n ≤ 60 ∧ ς.2.2.1 3 j = nI n := by
  unfold spT at h ⊢
  split at h
  · exact absurd (by decide) h
  · rename_i h1
    obtain ⟨j, hj, rfl⟩ := in_ge (x := t) (c := 4) 4 (by decide) (fun z => h1 (Or.inl z)) (fun z => h1 (Or.inr z))
    rw [ix_nI (by omega)] at h ⊢
    split at h
    · exact absurd (by decide) h
    · rename_i h2
      rw [if_neg h1, if_neg h2]
      refine ⟨rfl, j, hj, rfl, ?_⟩
      rcases (hI j hj).1 with e | e
      · rw [e] at h2; exact absurd (by decide) h2
      · exact e
theorem spP_0 {t k : Int32} {ς : Tw} (hI : InvT ς) (h : ¬ 0 < spP t k ς) : spP t k ς = 0 ∧ ∃ j i n, j < 4 ∧ t = nI j ∧ n ≤ 60 ∧ ς.2.2.1 3 j = nI n ∧ i < n ∧ k = nI i := by
  unfold spP at h ⊢
  by_cases h1 : 0 < spT t ς
  · rw [if_pos h1] at h; exact absurd h1 h
  · rw [if_neg h1] at h ⊢
    obtain ⟨-, j, hj, rfl, n, hn, e⟩ := spT_0 hI h1
    rw [ix_nI (by omega), e] at h ⊢
    by_cases h2 : k < 0 ∨ nI n ≤ k
    · rw [if_pos h2] at h; exact absurd (by decide) h
    · rw [if_neg h2]
      obtain ⟨i, hi, rfl⟩ := in_ge (x := k) (c := nI n) n (nI_toInt (by omega)) (fun z => h2 (Or.inl z)) (fun z => h2 (Or.inr z))
      exact ⟨rfl, j, i, n, hj, rfl, hn, e, hi, rfl⟩
