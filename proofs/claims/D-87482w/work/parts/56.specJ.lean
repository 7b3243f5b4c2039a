/-! ===== partings of jobs, specified ===== -/
def oI : Option Nat → Int32
  | none => -1
  | some m => nI m
/-- what an engine bears of the first k jobs -/
def ldN (JT t : Nat → Nat) : Nat → Nat → Nat
  | 0, _ => 0
  | k + 1, e => ldN JT t k e + (if t k = e then JT k else 0)
/-- the greatest sum, of the first k jobs; none if one can't be -/
def mostN (AX WX JA JW JT t : Nat → Nat) : Nat → Option Nat
  | 0 => some 0
  | k + 1 => match mostN AX WX JA JW JT t k with
    | none => none
    | some m => if JA k ≤ AX (t k) ∧ JW k ≤ WX (t k) then some (max m (ldN JT t (k + 1) (t k))) else none
def dgt (E J v j : Nat) : Nat := v / E ^ (J - 1 - j) % E
/-- the best of the first v partings, and which it is -/
def bst (p : Nat → Option Nat) : Nat → Option (Nat × Nat)
  | 0 => none
  | v + 1 => match p v with
    | none => bst p v
    | some m => match bst p v with
      | none => some (m, v)
      | some (b, i) => if m < b then some (m, v) else some (b, i)
def gJ (ς : Tw) : Nat := ix (ς.1 82)
def gJA (ς : Tw) (j : Nat) : Nat := ix (ς.2.2.1 90 j)
def gJW (ς : Tw) (j : Nat) : Nat := ix (ς.2.2.1 91 j)
def gJT (ς : Tw) (j : Nat) : Nat := ix (ς.2.2.1 92 j)
def spMost (ς : Tw) (v : Nat) : Option Nat := mostN (gA ς) (gW ς) (gJA ς) (gJW ς) (gJT ς) (dgt (gE ς) (gJ ς) v) (gJ ς)
def spBest (ς : Tw) : Option (Nat × Nat) := bst (spMost ς) (gE ς ^ gJ ς)
def sp_part (ς : Tw) : Int32 × Tw := match spBest ς with
  | none => (-1, bE ς 9)
  | some b => (nI b.1, b0 ς)
def sp_partOf (j : Int32) (ς : Tw) : Int32 × Tw :=
  if ¬ (0 ≤ j ∧ j < ς.1 82) then (-1, bE ς 2) else match spBest ς with
  | none => (-1, bE ς 9)
  | some b => (nI (dgt (gE ς) (gJ ς) b.2 (ix j)), b0 ς)
def PrF (τ : Tw) (E J : Nat) (AX WX JA JW JT : Nat → Nat) : Prop := (E ≤ 4 ∧ τ.1 5 = nI E) ∧ (J ≤ 7 ∧ τ.1 82 = nI J) ∧ (∀ e, e < E → (AX e ≤ 7 ∧ τ.2.2.1 6 e = nI (AX e)) ∧ WX e ≤ 12 ∧ τ.2.2.1 7 e = nI (WX e)) ∧ ∀ j, j < J → (JA j ≤ 7 ∧ τ.2.2.1 90 j = nI (JA j)) ∧ (JW j ≤ 12 ∧ τ.2.2.1 91 j = nI (JW j)) ∧ JT j ≤ 1000 ∧ τ.2.2.1 92 j = nI (JT j)
theorem PrF.sx {τ' τ : Tw} {c : List Nat} {E J : Nat} {AX WX JA JW JT : Nat → Nat} (h : PrF τ E J AX WX JA JW JT) (hS : Sx [] [] c [] τ' τ) (h6 : 6 ∉ c) (h7 : 7 ∉ c) (h90 : 90 ∉ c) (h91 : 91 ∉ c) (h92 : 92 ∉ c) : PrF τ' E J AX WX JA JW JT := by
  unfold PrF at h ⊢
  rw [hS.1 5 (by simp), hS.1 82 (by simp), hS.2.2.1 6 h6, hS.2.2.1 7 h7, hS.2.2.1 90 h90, hS.2.2.1 91 h91, hS.2.2.1 92 h92]
  exact h
theorem PrF.of {ς : Tw} (hI : InvE ς) (hJ : InvJ ς) : PrF ς (gE ς) (gJ ς) (gA ς) (gW ς) (gJA ς) (gJW ς) (gJT ς) := by
  obtain ⟨J, h7, eJ, hj⟩ := hJ
  have e : gJ ς = J := by rw [gJ, eJ, ix_nI (by omega)]
  refine ⟨⟨hI.1, hI.2.1⟩, ⟨by rw [e]; exact h7, by rw [e]; exact eJ⟩, fun e he => ?_, fun j hj1 => ?_⟩
  · have hO := (hI.2.2.1 e he).1
    exact ⟨⟨hO.1.2.1, hO.1.2.2⟩, hO.2.1.2.1, hO.2.1.2.2⟩
  · rw [e] at hj1
    obtain ⟨x, w, t, h1, h2, h3, h4, h5, h6, e1, e2, e3⟩ := hj j hj1
    unfold gJA gJW gJT
    rw [e1, e2, e3, ix_nI (by omega), ix_nI (by omega), ix_nI (by omega)]
    exact ⟨⟨h2, rfl⟩, ⟨h4, rfl⟩, h6, rfl⟩
theorem ldN_le {JT t : Nat → Nat} {J : Nat} (h : ∀ j, j < J → JT j ≤ 1000) (e : Nat) : ∀ k, k ≤ J → ldN JT t k e ≤ 1000 * k
  | 0, _ => Nat.le_refl _
  | k + 1, hk => by
    have h1 := ldN_le (t := t) h e k (by omega)
    have h2 := h k (by omega)
    rw [ldN]
    split <;> omega
theorem mostN_le {AX WX JA JW JT t : Nat → Nat} {J : Nat} (h : ∀ j, j < J → JT j ≤ 1000) : ∀ k, k ≤ J → ∀ m, mostN AX WX JA JW JT t k = some m → m ≤ 1000 * k
  | 0, _, m, e => by
    have : m = 0 := by injection e with e; exact e.symm
    omega
  | k + 1, hk, m, e => by
    rw [mostN] at e
    have h1 := ldN_le (t := t) h (t k) (k + 1) hk
    cases hh : mostN AX WX JA JW JT t k with
    | none => rw [hh] at e; exact absurd e (by simp)
    | some q =>
      have h2 := mostN_le h k (by omega) q hh
      rw [hh] at e
      simp only at e
      split at e
      · injection e with e; omega
      · exact absurd e (by simp)
theorem mostN_s {AX WX JA JW JT t : Nat → Nat} {k m : Nat} (h : mostN AX WX JA JW JT t k = some m) : mostN AX WX JA JW JT t (k + 1) = if JA k ≤ AX (t k) ∧ JW k ≤ WX (t k) then some (max m (ldN JT t (k + 1) (t k))) else none := by
  rw [mostN, h]
theorem mostN_no {AX WX JA JW JT t : Nat → Nat} {k : Nat} (h : mostN AX WX JA JW JT t k = none) : ∀ n, mostN AX WX JA JW JT t (k + n) = none
  | 0 => h
  | n + 1 => by rw [← Nat.add_assoc, mostN, mostN_no h n]
theorem mostN_cg {AX WX JA JW JT t t' : Nat → Nat} {J : Nat} (h : ∀ j, j < J → t j = t' j) : ∀ k, k ≤ J → mostN AX WX JA JW JT t k = mostN AX WX JA JW JT t' k := by
  have hl : ∀ k, k ≤ J → ∀ e, ldN JT t k e = ldN JT t' k e := by
    intro k
    induction k with
    | zero => intro _ _; rfl
    | succ k ih => intro hk e; rw [ldN, ldN, ih (by omega), h k (by omega)]
  intro k
  induction k with
  | zero => intro _; rfl
  | succ k ih => intro hk; rw [mostN, mostN, ih (by omega), hl (k + 1) hk, h k (by omega)]
theorem bst_lt {p : Nat → Option Nat} : ∀ {v b i : Nat}, bst p v = some (b, i) → i < v ∧ p i = some b
  | 0, b, i, h => absurd h (by simp [bst])
  | v + 1, b, i, h => by
    rw [bst] at h
    cases hp : p v with
    | none =>
      rw [hp] at h
      have := bst_lt (v := v) h
      exact ⟨by omega, this.2⟩
    | some m =>
      rw [hp] at h
      cases hb : bst p v with
      | none =>
        rw [hb] at h
        simp only at h
        injection h with h
        injection h with h1 h2
        subst h1; subst h2
        exact ⟨Nat.lt_succ_self _, hp⟩
      | some bi =>
        obtain ⟨b2, i2⟩ := bi
        rw [hb] at h
        simp only at h
        split at h
        · injection h with h
          injection h with h1 h2
          subst h1; subst h2
          exact ⟨Nat.lt_succ_self _, hp⟩
        · have := bst_lt (v := v) (hb.trans h)
          exact ⟨by omega, this.2⟩
