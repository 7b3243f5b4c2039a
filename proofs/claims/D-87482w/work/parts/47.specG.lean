/-! ===== sheets, specified ===== -/
theorem oaN_cg {r f r' f' : Nat → Int32} {W : Nat} (h : ∀ i, i < W → r i = r' i ∧ f i = f' i) : ∀ m, m ≤ W → oaN r f W m = oaN r' f' W m
  | 0, _ => rfl
  | m + 1, hm => by
    rw [oaN, oaN, oaN_cg h m (by omega), (h (W - 1 - m) (by omega)).1, (h (W - 1 - m) (by omega)).2]
/-- the number on an axis of a matrix -/
def oaM (W : Nat) (rd : Nat → Nat) (F : Mx) (x : Nat) : Int64 := oaN (fun i => nI (rd i)) (fun i => nI (F x i)) W W
theorem oaM_of {τ : Tw} {a0 : Nat → Int32} {e x A W : Nat} {rd : Nat → Nat} {G : Mx} (hA : A ≤ 7) (hW : W ≤ 12) (hx : x < A) (hr : ∀ i, i < W → τ.2.2.1 9 (12 * e + i) = nI (rd i)) (hfig : τ.2.2.1 10 = fgUp a0 e A W G) : oaN (fun i => τ.2.2.1 9 (12 * e + i)) (fun i => τ.2.2.1 10 (12 * (7 * e + x) + i)) W W = oaM W rd G x :=
  oaN_cg (fun i hi => ⟨hr i hi, (congrFun hfig _).trans (fgUp_at hA hW hx hi)⟩) W (Nat.le_refl _)
def spAsk (e t r : Int32) (ς : Tw) : Int32 :=
  if t < 0 ∨ 4 ≤ t then 1 else if ¬ IsE e ς then 2 else if ς.2.2.1 3 (ix t) < 0 then 3 else if ¬ (1 ≤ r ∧ r ≤ 60) then 5 else if ς.2.2.1 3 (ix t) < r then 4 else 0
theorem spAsk_0 {e t r : Int32} {ς : Tw} (hI : InvE ς) (hT : InvT ς) (h : ¬ 0 < spAsk e t r ς) : spAsk e t r ς = 0 ∧ IsE e ς ∧ ∃ y n m, y < 4 ∧ t = nI y ∧ n ≤ 60 ∧ ς.2.2.1 3 y = nI n ∧ 1 ≤ m ∧ m ≤ n ∧ r = nI m := by
  unfold spAsk at h ⊢
  by_cases h1 : t < 0 ∨ 4 ≤ t
  · rw [if_pos h1] at h; exact absurd (by decide) h
  · rw [if_neg h1] at h ⊢
    obtain ⟨y, hy, rfl⟩ := in_ge (x := t) (c := 4) 4 (by decide) (fun z => h1 (Or.inl z)) (fun z => h1 (Or.inr z))
    rw [ix_nI (by omega)] at h ⊢
    by_cases h2 : IsE e ς
    · rw [if_neg (fun z => z h2)] at h ⊢
      by_cases h3 : ς.2.2.1 3 y < 0
      · rw [if_pos h3] at h; exact absurd (by decide) h
      · rw [if_neg h3] at h ⊢
        by_cases h4 : 1 ≤ r ∧ r ≤ 60
        · rw [if_neg (fun z => z h4)] at h ⊢
          by_cases h5 : ς.2.2.1 3 y < r
          · rw [if_pos h5] at h; exact absurd (by decide) h
          · rw [if_neg h5]
            rcases (hT y hy).1 with e1 | ⟨n, hn, en⟩
            · rw [e1] at h3; exact absurd (by decide) h3
            · obtain ⟨m, hm, rfl⟩ := in_oc (x := r) (c := 60) 60 (by decide) (Int32.le_trans (by decide) h4.1) h4.2
              rw [en] at h5
              have h6 := (nI_leN (a := 1) (b := m) (by omega) (by omega)).mp h4.1
              refine ⟨rfl, h2, y, n, m, hy, rfl, hn, en, h6, ?_, rfl⟩
              exact Nat.le_of_not_lt (fun z => h5 ((nI_ltN (by omega) (by omega)).mpr z))
        · rw [if_pos h4] at h; exact absurd (by decide) h
    · rw [if_pos h2] at h; exact absurd (by decide) h
/-- what a sheet shows in line k -/
def spLine (e t : Nat) (ς : Tw) (k : Nat) : Int64 := spCut (ς.2.2.1 2 t) (oaM (gW ς e) (gR ς e) (spTrn e (k + 1) ς) 0)
def sp_sheet (e t r : Int32) (ς : Tw) : Int32 × Tw :=
  if 0 < spAsk e t r ς then (0, tI (b1 ς) 0 (spAsk e t r ς)) else if 1000 < ς.2.2.1 8 (ix e) + r then (0, bE ς 9)
  else (1, tB (tA (tA (b0 ς) 8 (upd (ς.2.2.1 8) (ix e) (ς.2.2.1 8 (ix e) + r))) 10 (fgUp (ς.2.2.1 10) (ix e) (gA ς (ix e)) (gW ς (ix e)) (spTrn (ix e) (ix r) ς))) 4 (rngL (ς.2.2.2 4) (60 * ix t) (ix r) (spLine (ix e) (ix t) ς)))
/-- no mishap; the q-th of turn t -/
def cn0 (_ _ _ _ : Nat) : Nat := 0
def cn1 (W t0 q : Nat) (t x w k : Nat) : Nat := if nI t0 = nI t ∧ nI (q / (3 * W)) = nI x ∧ nI (q / 3 % W) = nI w ∧ nI (q % 3) = nI k then 1 else 0
/-- a sheet of r lines is shown from here, with mishaps so counted -/
def shP (ς : Tw) (e t : Nat) (cnt : Nat → Nat → Nat → Nat → Nat) (k : Nat) : Bool := decide (spCut (ς.2.2.1 2 t) (oaM (gW ς e) (gR ς e) (trnN (gA ς e) (gW ς e) (gR ς e) cnt 0 (gF ς e) (k + 1)) 0) = ς.2.2.2 4 (60 * t + k))
def shN (ς : Tw) (e t r : Nat) (cnt : Nat → Nat → Nat → Nat → Nat) : Bool := allB (shP ς e t cnt) r
theorem allB_f {p : Nat → Bool} {k n : Nat} (hk : k ≤ n) (h : allB p k = false) : allB p n = false := by
  cases hh : allB p n with
  | false => rfl
  | true =>
    have h2 : allB p k = true := allB_iff.mpr (fun j hj => allB_iff.mp hh j (by omega))
    rw [h] at h2; exact absurd h2 (by decide)
/-- the first of n from k on -/
def fstN (p : Nat → Bool) : Nat → Nat → Option Nat
  | 0, _ => none
  | n + 1, k => if p k = true then some k else fstN p n (k + 1)
theorem fstN_none {p : Nat → Bool} : ∀ {n k : Nat}, (∀ j, k ≤ j → j < k + n → p j = false) → fstN p n k = none
  | 0, _, _ => rfl
  | n + 1, k, h => by
    rw [fstN, if_neg (by rw [h k (by omega) (by omega)]; decide)]
    exact fstN_none (fun j h1 h2 => h j (by omega) (by omega))
theorem fstN_some {p : Nat → Bool} {m : Nat} (hm : p m = true) : ∀ {n k : Nat}, k ≤ m → m < k + n → (∀ j, k ≤ j → j < m → p j = false) → fstN p n k = some m
  | 0, _, h1, h2, _ => by omega
  | n + 1, k, h1, h2, h => by
    by_cases e : k = m
    · subst e; rw [fstN, if_pos hm]
    · rw [fstN, if_neg (by rw [h k (by omega) (by omega)]; decide)]
      exact fstN_some hm (by omega) (by omega) (fun j h3 h4 => h j (by omega) h4)
/-- how many mishaps may be tried in a turn -/
def mhM (ς : Tw) (e : Nat) : Nat := 3 * (gA ς e - 1) * gW ς e
def spTry (e t r : Nat) (ς : Tw) : Option Nat := fstN (fun m => shN ς e t r (cn1 (gW ς e) (m / mhM ς e + 1) (m % mhM ς e))) (r * mhM ς e) 0
def spCause (ς : Tw) (W t q : Nat) : Tw := tI (tI (tI (tI ς 22 (nI t)) 23 (nI (q / (3 * W)))) 24 (nI (q / 3 % W))) 25 (nI (q % 3))
def sp_explain (e t r : Int32) (ς : Tw) : Int32 × Tw :=
  if 0 < spAsk e t r ς then (-1, tI (b1 ς) 0 (spAsk e t r ς)) else if shN ς (ix e) (ix t) (ix r) cn0 = true then (0, tI (b0 ς) 22 (-1))
  else match spTry (ix e) (ix t) (ix r) ς with
    | none => (-1, bE ς 8)
    | some m => (1, spCause (b0 ς) (gW ς (ix e)) (m / mhM ς (ix e) + 1) (m % mhM ς (ix e)))
