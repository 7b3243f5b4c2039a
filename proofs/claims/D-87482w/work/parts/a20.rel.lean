/-! ===== the component's state and the reference's: when they tell the same ===== -/
def rlI : List (Nat × Nat) := [(8, 0), (6, 5), (7, 41), (9, 31), (10, 32), (101, 29), (25, 60), (26, 61), (20, 62), (21, 63), (22, 64), (24, 66), (45, 78), (46, 79), (47, 81), (48, 77), (55, 82)]
def rlA : List (Nat × Nat) := [(100, 28), (38, 83), (39, 84), (40, 86), (42, 87), (43, 88), (44, 89), (49, 90), (50, 91), (51, 92)]
def rlB : List (Nat × Nat) := [(18, 58), (19, 59)]
def RI (ξ : Xs) (τ : Tw) : Prop := ∀ q ∈ rlI, ξ.1 q.1 = τ.1 q.2
/-- .. in the mill, where the alarm's place counts too -/
def rlM : List (Nat × Nat) := [(8, 0), (6, 5), (7, 41), (9, 31), (10, 32), (101, 29), (25, 60), (26, 61), (20, 62), (21, 63), (22, 64), (24, 66), (45, 78), (46, 79), (47, 81), (48, 77), (55, 82), (23, 65)]
theorem sbM : ∀ q ∈ rlI, q ∈ rlM := by decide
def RIm (ξ : Xs) (τ : Tw) : Prop := ∀ q ∈ rlM, ξ.1 q.1 = τ.1 q.2
theorem RIm.at {ξ : Xs} {τ : Tw} (h : RIm ξ τ) (i j : Nat) (hm : (i, j) ∈ rlM) : ξ.1 i = τ.1 j := h (i, j) hm
def RA (ξ : Xs) (τ : Tw) : Prop := ∀ q ∈ rlA, ξ.2.2.1 q.1 = τ.2.2.1 q.2
def RB (ξ : Xs) (τ : Tw) : Prop := ∀ q ∈ rlB, ξ.2.2.2.1 q.1 = τ.2.2.2 q.2
section
variable {ξ : Xs} {τ : Tw}
theorem RI.up (h : RI ξ τ) (i j : Nat) {v w : Int32} (hv : v = w) (hd : ∀ q ∈ rlI, (q.1 = i ↔ q.2 = j)) : RI (xI ξ i v) (tI τ j w) := by
  subst hv
  intro q hq
  show upd ξ.1 i v q.1 = upd τ.1 j v q.2
  by_cases e : q.1 = i
  · rw [e, (hd q hq).mp e, pk_us, pk_us]
  · rw [pk_un e, pk_un (fun z => e ((hd q hq).mpr z))]; exact h q hq
theorem RI.x (h : RI ξ τ) (i : Nat) (v : Int32) (hd : ∀ q ∈ rlI, ¬ q.1 = i) : RI (xI ξ i v) τ := by
  intro q hq
  show upd ξ.1 i v q.1 = _
  rw [pk_un (hd q hq)]; exact h q hq
theorem RI.t (h : RI ξ τ) (i : Nat) (v : Int32) (hd : ∀ q ∈ rlI, ¬ q.2 = i) : RI ξ (tI τ i v) := by
  intro q hq
  show _ = upd τ.1 i v q.2
  rw [pk_un (hd q hq)]; exact h q hq
theorem RA.up (h : RA ξ τ) (i j : Nat) {v w : Nat → Int32} (hv : v = w) (hd : ∀ q ∈ rlA, (q.1 = i ↔ q.2 = j)) : RA (xA ξ i v) (tA τ j w) := by
  subst hv
  intro q hq
  show va_up ξ.2.2.1 i v q.1 = va_up τ.2.2.1 j v q.2
  by_cases e : q.1 = i
  · rw [e, (hd q hq).mp e, va_up_self, va_up_self]
  · rw [va_up_ne _ _ e, va_up_ne _ _ (fun z => e ((hd q hq).mpr z))]; exact h q hq
theorem RA.x (h : RA ξ τ) (i : Nat) (v : Nat → Int32) (hd : ∀ q ∈ rlA, ¬ q.1 = i) : RA (xA ξ i v) τ := by
  intro q hq
  show va_up ξ.2.2.1 i v q.1 = _
  rw [va_up_ne _ _ (hd q hq)]; exact h q hq
theorem RA.t (h : RA ξ τ) (i : Nat) (v : Nat → Int32) (hd : ∀ q ∈ rlA, ¬ q.2 = i) : RA ξ (tA τ i v) := by
  intro q hq
  show _ = va_up τ.2.2.1 i v q.2
  rw [va_up_ne _ _ (hd q hq)]; exact h q hq
theorem RB.up (h : RB ξ τ) (i j : Nat) {v w : Nat → Int64} (hv : v = w) (hd : ∀ q ∈ rlB, (q.1 = i ↔ q.2 = j)) : RB (xB ξ i v) (tB τ j w) := by
  subst hv
  intro q hq
  show va_up ξ.2.2.2.1 i v q.1 = va_up τ.2.2.2 j v q.2
  by_cases e : q.1 = i
  · rw [e, (hd q hq).mp e, va_up_self, va_up_self]
  · rw [va_up_ne _ _ e, va_up_ne _ _ (fun z => e ((hd q hq).mpr z))]; exact h q hq
theorem RB.x (h : RB ξ τ) (i : Nat) (v : Nat → Int64) (hd : ∀ q ∈ rlB, ¬ q.1 = i) : RB (xB ξ i v) τ := by
  intro q hq
  show va_up ξ.2.2.2.1 i v q.1 = _
  rw [va_up_ne _ _ (hd q hq)]; exact h q hq
theorem RB.t (h : RB ξ τ) (i : Nat) (v : Nat → Int64) (hd : ∀ q ∈ rlB, ¬ q.2 = i) : RB ξ (tB τ i v) := by
  intro q hq
  show _ = va_up τ.2.2.2 i v q.2
  rw [va_up_ne _ _ (hd q hq)]; exact h q hq
end
/-- the reason of an explained sheet -/
def RW0 (ξ : Xs) (τ : Tw) : Prop := (ξ.1 13 = 0 ∧ τ.1 22 < 0) ∨ (ξ.1 13 = 1 ∧ ¬ τ.1 22 < 0 ∧ ξ.2.2.1 12 0 = τ.1 22 ∧ ξ.2.2.1 12 1 = τ.1 23 ∧ ξ.2.2.1 12 2 = τ.1 24 ∧ ξ.2.2.1 12 3 = τ.1 25)
/-- .. and the alarm's place, once there was a run -/
def RW (ξ : Xs) (τ : Tw) : Prop := RW0 ξ τ ∧ (τ.1 60 = 0 ∨ ξ.1 23 = τ.1 65)
/-- printings: how many plates, printings, rights, copies; the first copy of each printing -/
def RP (ξ : Xs) (τ : Tw) : Prop := ∃ C P T K : Nat, ∃ F : Nat → Nat, (C ≤ 100 ∧ τ.1 78 = nI C ∧ P ≤ 20 ∧ τ.1 79 = nI P ∧ T ≤ 60 ∧ τ.1 81 = nI T ∧ τ.1 80 = nI K ∧ F 0 = 1 ∧ F P = K + 1 ∧ (∀ p, p < P → F p < F (p + 1) ∧ F (p + 1) ≤ F p + 1000 ∧ τ.2.2.1 85 p = nI (F p)) ∧ ∀ p, p < P → ∃ c, c ≤ C ∧ τ.2.2.1 86 p = nI c) ∧ ∀ p, p < P → ξ.2.2.1 41 p = nI (F (p + 1) - 1)
theorem RP.inv {ξ : Xs} {τ : Tw} (h : RP ξ τ) : InvP τ := by
  obtain ⟨C, P, T, K, F, h1, h2⟩ := h
  exact ⟨C, P, T, K, F, h1⟩
/-- what errata put right -/
def RR (ξ : Xs) (τ : Tw) : Prop := ∃ q, q ≤ 2 ∧ τ.1 74 = nI q ∧ (∀ j, j < q → ξ.2.2.1 33 j = τ.2.2.1 97 j ∧ ¬ ξ.2.2.1 33 j = -1 ∧ ξ.2.2.1 34 j = τ.2.2.1 98 j) ∧ ∀ j, q ≤ j → j < 2 → ξ.2.2.1 33 j = -1
/-- a row of a tray in the memory: by its sort -/
def rowC (s n : Nat) (g : Nat → Int64) : ACell := if s = 3 then .inl (1, n, .inr (.inl g)) else .inl (if s = 0 then 2 else if s = 1 then 3 else 0, n, .inl (fun k => (g k).toInt32))
/-- a number that a sort holds -/
def fitS (s : Nat) (v : Int64) : Prop := spCut (nI s) v = v
def RT (own : Nat → Nat) (ξ : Xs) (dyn : List ACell) (τ : Tw) : Prop := ∀ t, t < 4 →
  (τ.2.2.1 3 t = -1 ∧ ξ.2.2.2.2.2.2 t = (none, 0) ∧ τ.2.2.1 2 t = 0) ∨
  ∃ s n r : Nat, ∃ g : Nat → Int64, s < 4 ∧ n ≤ 60 ∧ τ.2.2.1 2 t = nI s ∧ τ.2.2.1 3 t = nI n ∧ ξ.2.2.2.2.2.2 t = (some (117 + r), nI s) ∧ dyn[r]? = some (rowC s n g) ∧ own r = 1 + t ∧ ∀ k, k < n → g k = τ.2.2.2 4 (60 * t + k) ∧ fitS s (g k)
/-- an engine in the memory: axes, wheels; turn, mishaps; told mishaps' turns, axes, wheels, kinds; warned; radix; figures -/
abbrev En : Type := Nat × Nat × Int32 × Int32 × (Nat → Nat → Int32) × (Nat → Int32) × (Nat → Int32) × (Nat → Nat → Int32)
def enO (b : Nat) (η : En) : List Value := [.int (nI η.1), .int (nI η.2.1), .ref (b + 6), .ref (b + 7), .int η.2.2.1, .int η.2.2.2.1, .ref (b + 1), .ref (b + 2), .ref (b + 3), .ref (b + 4), .ref (b + 5)]
def enX (b : Nat) (η : En) (a : Nat) : List ACell := [.inr (6, [.ref (b + 9 + 2 * a)]), .inl (0, η.2.1, .inl (η.2.2.2.2.2.2.2 a))]
def enA : Nat → Nat → Nat → Option Nat := fun b A a => if a < A then some (b + 8 + 2 * a) else none
def enB (b : Nat) (η : En) : List ACell := [.inr (5, enO b η), .inl (0, 20, .inl (η.2.2.2.2.1 0)), .inl (0, 20, .inl (η.2.2.2.2.1 1)), .inl (0, 20, .inl (η.2.2.2.2.1 2)), .inl (0, 20, .inl (η.2.2.2.2.1 3)), .inl (4, 12, .inl η.2.2.2.2.2.1), .inl (0, η.2.1, .inl η.2.2.2.2.2.2.1), .inl (8, η.1, .inr (.inr (.inr (.inr (enA b η.1)))))] ++ (List.range η.1).flatMap (enX b η)
/-- a block of cells lies at a place -/
def HlD (M : List ACell) (b : Nat) (cs : List ACell) : Prop := ∀ k c, cs[k]? = some c → M[b + k]? = some c
/-- the block is this engine of the reference -/
def EnR (η : En) (τ : Tw) (e : Nat) : Prop := η.1 = gA τ e ∧ η.2.1 = gW τ e ∧ η.2.2.1 = τ.2.2.1 8 e ∧ η.2.2.2.1 = τ.2.2.1 12 e ∧
  (∀ m, m < gM τ e → η.2.2.2.2.1 0 m = τ.2.2.1 13 (20 * e + m) ∧ η.2.2.2.2.1 1 m = τ.2.2.1 14 (20 * e + m) ∧ η.2.2.2.2.1 2 m = τ.2.2.1 15 (20 * e + m) ∧ η.2.2.2.2.1 3 m = τ.2.2.1 16 (20 * e + m)) ∧
  (∀ i, i < gW τ e → η.2.2.2.2.2.2.1 i = τ.2.2.1 9 (12 * e + i)) ∧ ∀ a, a < gA τ e → ∀ i, i < gW τ e → η.2.2.2.2.2.2.2 a i = τ.2.2.1 10 (12 * (7 * e + a) + i)
def RE (own : Nat → Nat) (ξ : Xs) (dyn : List ACell) (τ : Tw) : Prop := InvE τ ∧ ∀ e, e < gE τ → ∃ b η, ξ.2.2.2.2.1 1 e = some (117 + b) ∧ HlD dyn b (enB (117 + b) η) ∧ (∀ k, k < 8 + 2 * η.1 → own (b + k) = 10 + e) ∧ EnR η τ e
/-- a card in the memory: kind, places, number, when, where -/
def cdB (b : Nat) (K : Int32) (at_ : Nat → Int32) (v : Int64) (w p : Int32) : List ACell := [.inr (7, [.int K, .ref (b + 1), .long v, .int w, .int p]), .inl (0, 4, .inl at_)]
/-- .. and the reference's -/
def CdR (K : Int32) (at_ : Nat → Int32) (v : Int64) (w : Int32) (τ : Tw) (k : Nat) : Prop := K = τ.2.2.1 43 k ∧ w = τ.2.2.1 48 k ∧ (∀ j, j < 4 → ∃ a, a < 20 ∧ at_ j = nI a) ∧
  (τ.2.2.1 43 k = 0 → at_ 0 = τ.2.2.1 44 k ∧ v = τ.2.2.2 56 k ∧ -999999999999 ≤ v ∧ v ≤ 999999999999) ∧ (1 ≤ τ.2.2.1 43 k ∧ τ.2.2.1 43 k ≤ 5 → at_ 0 = τ.2.2.1 44 k) ∧ (1 ≤ τ.2.2.1 43 k ∧ τ.2.2.1 43 k ≤ 4 → at_ 1 = τ.2.2.1 45 k ∧ at_ 2 = τ.2.2.1 46 k) ∧ (τ.2.2.1 43 k = 4 → at_ 3 = τ.2.2.1 47 k) ∧ (6 ≤ τ.2.2.1 43 k → v = (τ.2.2.1 44 k).toInt64)
def RC (own : Nat → Nat) (ξ : Xs) (dyn : List ACell) (τ : Tw) : Prop := InvM τ ∧ (∃ p, (p = 6 ∨ p = 7) ∧ ξ.2.2.2.2.2.1 4 = some p ∧ ξ.2.2.2.2.2.1 5 = some (13 - p) ∧
  ∀ k, k < ix (τ.1 41) → ∃ b K at_ v w q, ξ.2.2.2.2.1 p k = some (117 + b) ∧ HlD dyn b (cdB (117 + b) K at_ v w q) ∧ own b = 100 ∧ own (b + 1) = 100 ∧ CdR K at_ v w τ k)
/-- the reference is as it should be -/
def RV (τ : Tw) : Prop := InvT τ ∧ InvJ τ ∧ InvR τ ∧ InvF τ ∧ InvN τ ∧ (τ.1 60 = 0 → τ.1 62 = 0)
def Rel (own : Nat → Nat) (ξ : Xs) (dyn : List ACell) (τ : Tw) : Prop := RI ξ τ ∧ RA ξ τ ∧ RB ξ τ ∧ RW ξ τ ∧ RP ξ τ ∧ RR ξ τ ∧ RT own ξ dyn τ ∧ RE own ξ dyn τ ∧ RC own ξ dyn τ ∧ RV τ
/-- an operation's end in the component -/
def XQi (mid : List ACell) (r : Int32 × Tw) : Qfun := fun v M' => ∃ ξ' dyn' own', M' = XM ξ' mid dyn' ∧ v = some (.int r.1) ∧ Rel own' ξ' dyn' r.2
def XQl (mid : List ACell) (r : Int64 × Tw) : Qfun := fun v M' => ∃ ξ' dyn' own', M' = XM ξ' mid dyn' ∧ v = some (.long r.1) ∧ Rel own' ξ' dyn' r.2

theorem RI.at {ξ : Xs} {τ : Tw} (h : RI ξ τ) (i j : Nat) (hm : (i, j) ∈ rlI) : ξ.1 i = τ.1 j := h (i, j) hm
theorem RA.at {ξ : Xs} {τ : Tw} (h : RA ξ τ) (i j : Nat) (hm : (i, j) ∈ rlA) : ξ.2.2.1 i = τ.2.2.1 j := h (i, j) hm
theorem RB.at {ξ : Xs} {τ : Tw} (h : RB ξ τ) (i j : Nat) (hm : (i, j) ∈ rlB) : ξ.2.2.2.1 i = τ.2.2.2 j := h (i, j) hm
/-- only the status changes -/
theorem Rel.st {own : Nat → Nat} {ξ : Xs} {dyn : List ACell} {τ : Tw} (h : Rel own ξ dyn τ) (w : Int32) : Rel own (xI ξ 8 w) dyn (tI (b1 τ) 0 w) := by
  obtain ⟨hI, hA, hB, hW, hP, hR, hT, hE, hC, hV⟩ := h
  exact ⟨(hI.t 1 0 (by decide)).up 8 0 rfl (by decide), hA, hB, hW, hP, hR, hT, hE, hC, hV⟩
theorem Rel.st0 {own : Nat → Nat} {ξ : Xs} {dyn : List ACell} {τ : Tw} (h : Rel own ξ dyn τ) : Rel own (xI ξ 8 0) dyn (b0 τ) := h.st 0
theorem Rel.stE {own : Nat → Nat} {ξ : Xs} {dyn : List ACell} {τ : Tw} (h : Rel own ξ dyn τ) (w : Int32) : Rel own (xI ξ 8 w) dyn (bE τ w) := by
  rw [show bE τ w = tI (b1 τ) 0 w from tI_tI ..]
  exact h.st w
theorem Rel.b1 {own : Nat → Nat} {ξ : Xs} {dyn : List ACell} {τ : Tw} (h : Rel own ξ dyn τ) : Rel own ξ dyn (b1 τ) := by
  obtain ⟨hI, hA, hB, hW, hP, hR, hT, hE, hC, hV⟩ := h
  exact ⟨hI.t 1 0 (by decide), hA, hB, hW, hP, hR, hT, hE, hC, hV⟩
