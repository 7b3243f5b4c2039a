/-! ===== the component: partings, plain ===== -/
theorem dgt_pre {E J k v u j : Nat} (hj : j < k) (hk : k ≤ J) (hu : v / E ^ (J - k) = u) : dgt E J v j = dgt E k u j := by
  unfold dgt
  rw [← hu, Nat.div_div_eq_div_mul, ← Nat.pow_add, show J - k + (k - 1 - j) = J - 1 - j by omega]
theorem dgt_s {E k u e j : Nat} (hj : j < k) (he : e < E) : dgt E (k + 1) (u * E + e) j = dgt E k u j :=
  dgt_pre hj (Nat.le_succ k) (by rw [show k + 1 - k = 1 by omega, Nat.pow_one]; exact (dm_mul he).1)
theorem dgt_l {E k u e : Nat} (he : e < E) : dgt E (k + 1) (u * E + e) k = e := by
  unfold dgt
  rw [show k + 1 - 1 - k = 0 by omega, Nat.pow_zero, Nat.div_one]
  exact (dm_mul he).2
theorem ldN_cg {JT t t' : Nat → Nat} : ∀ {k : Nat}, (∀ j, j < k → t j = t' j) → ∀ e, ldN JT t k e = ldN JT t' k e
  | 0, _, _ => rfl
  | k + 1, h, e => by rw [ldN, ldN, ldN_cg (fun j hj => h j (by omega)) e, h k (by omega)]
section
variable {AX WX JA JW JT : Nat → Nat}
theorem mostN_up {t : Nat → Nat} {k m : Nat} (h : mostN AX WX JA JW JT t k = some m) : ∀ n m', mostN AX WX JA JW JT t (k + n) = some m' → m ≤ m'
  | 0, m', e => by
    have := h.symm.trans e
    injection this with this
    omega
  | n + 1, m', e => by
    cases hh : mostN AX WX JA JW JT t (k + n) with
    | none =>
      rw [← Nat.add_assoc, mostN, hh] at e
      exact absurd e (by simp)
    | some q =>
      have h2 := mostN_up h n q hh
      rw [← Nat.add_assoc, mostN_s hh] at e
      split at e
      · injection e with e; omega
      · exact absurd e (by simp)
/-- bst: nothing better in a stretch -/
theorem bst_keep {p : Nat → Option Nat} {V : Nat} : ∀ N, (∀ v, V ≤ v → v < V + N → ∀ m, p v = some m → ∃ B i, bst p V = some (B, i) ∧ B ≤ m) → bst p (V + N) = bst p V
  | 0, _ => rfl
  | N + 1, h => by
    have ih := bst_keep N (fun v h1 h2 => h v h1 (by omega))
    rw [← Nat.add_assoc, bst]
    cases hp : p (V + N) with
    | none => exact ih
    | some m =>
      obtain ⟨B, i, hb, hB⟩ := h (V + N) (by omega) (by omega) m hp
      rw [ih, hb]
      show (if m < B then some (m, V + N) else some (B, i)) = some (B, i)
      rw [if_neg (by omega)]
/-- the subtree of a prefix -/
theorem sub_in {E r u v : Nat} (h1 : u * E ^ r ≤ v) (h2 : v < u * E ^ r + E ^ r) : v / E ^ r = u := by
  have hp : 0 < E ^ r := by omega
  have e : v = u * E ^ r + (v - u * E ^ r) := by omega
  rw [e]
  exact (dm_mul (by omega)).1
abbrev pM (AX WX JA JW JT : Nat → Nat) (E J v : Nat) : Option Nat := mostN AX WX JA JW JT (dgt E J v) J
theorem pM_pre {E J k r u v : Nat} (hk : k + r = J) (hu : v / E ^ r = u) : mostN AX WX JA JW JT (dgt E J v) k = mostN AX WX JA JW JT (dgt E k u) k :=
  mostN_cg (J := k) (fun j hj => dgt_pre hj (by omega) (by rw [show J - k = r by omega]; exact hu)) k (Nat.le_refl _)
/-- too dear: passed over -/
theorem bst_dear {E J k r u m B i : Nat} (hk : k + r = J) (hm : mostN AX WX JA JW JT (dgt E k u) k = some m) (hb : bst (pM AX WX JA JW JT E J) (u * E ^ r) = some (B, i)) (hB : B ≤ m) : bst (pM AX WX JA JW JT E J) ((u + 1) * E ^ r) = some (B, i) := by
  rw [Nat.succ_mul, bst_keep (E ^ r) (fun v h1 h2 m' hp => ⟨B, i, hb, ?_⟩)]
  · exact hb
  · have e := pM_pre (AX := AX) (WX := WX) (JA := JA) (JW := JW) (JT := JT) hk (sub_in h1 h2)
    rw [hm] at e
    subst hk
    exact Nat.le_trans hB (mostN_up e r m' hp)
/-- not to be: passed over -/
theorem bst_none {E J k r u : Nat} (hk : k + r = J) (hm : mostN AX WX JA JW JT (dgt E k u) k = none) : bst (pM AX WX JA JW JT E J) ((u + 1) * E ^ r) = bst (pM AX WX JA JW JT E J) (u * E ^ r) := by
  rw [Nat.succ_mul]
  refine bst_keep (E ^ r) (fun v h1 h2 m' hp => ?_)
  have e := pM_pre (AX := AX) (WX := WX) (JA := JA) (JW := JW) (JT := JT) hk (sub_in h1 h2)
  rw [hm] at e
  subst hk
  have := mostN_no e r
  exact absurd (hp.symm.trans this) (by simp)
/-- one more job -/
theorem most_s {E k u e m : Nat} (he : e < E) (hm : mostN AX WX JA JW JT (dgt E k u) k = some m) : mostN AX WX JA JW JT (dgt E (k + 1) (u * E + e)) (k + 1) = if JA k ≤ AX e ∧ JW k ≤ WX e then some (max m (ldN JT (dgt E k u) k e + JT k)) else none := by
  have h1 : mostN AX WX JA JW JT (dgt E (k + 1) (u * E + e)) k = some m := by
    rw [← hm]
    exact mostN_cg (J := k) (fun j hj => dgt_s hj he) k (Nat.le_refl _)
  rw [mostN_s h1, ldN, ldN_cg (fun j hj => dgt_s hj he), dgt_l he, if_pos rfl]
theorem ld_s {E k u e e' : Nat} (he : e < E) : ldN JT (dgt E (k + 1) (u * E + e)) (k + 1) e' = ldN JT (dgt E k u) k e' + (if e = e' then JT k else 0) := by
  rw [ldN, ldN_cg (fun j hj => dgt_s hj he), dgt_l he]
end
