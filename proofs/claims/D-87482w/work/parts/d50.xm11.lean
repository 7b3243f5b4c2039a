/-! ===== the component: all cards (1) ===== -/
/-- the same but for the token, what is wrong, the row of cards at q -/
def SyQ (q : Nat) (ξ ξ' : Xs) : Prop := (∀ k, k ∉ [103, 104, 105, 206, 207] → ξ'.1 k = ξ.1 k) ∧ ξ'.2.2.1 = ξ.2.2.1 ∧ ξ'.2.2.2.1 = ξ.2.2.2.1 ∧ (∀ k, k ≠ q → ξ'.2.2.2.2.1 k = ξ.2.2.2.2.1 k) ∧ ξ'.2.2.2.2.2 = ξ.2.2.2.2.2
theorem SyP.q {a b : Xs} (h : SyP a b) (q : Nat) : SyQ q a b := ⟨h.1, by rw [h.2], by rw [h.2], fun k _ => by rw [h.2], by rw [h.2]⟩
theorem SyQ.tr {q : Nat} {a b c : Xs} (h : SyQ q a b) (g : SyQ q b c) : SyQ q a c := ⟨fun k hk => (g.1 k hk).trans (h.1 k hk), g.2.1.trans h.2.1, g.2.2.1.trans h.2.2.1, fun k hk => (g.2.2.2.1 k hk).trans (h.2.2.2.1 k hk), g.2.2.2.2.trans h.2.2.2.2⟩
theorem SyQ.R (q : Nat) (a : Xs) (g : Nat → Option Nat) : SyQ q a (xR a q g) := ⟨fun _ _ => rfl, rfl, rfl, fun _ hk => va_up_ne _ _ hk, rfl⟩
/-- the cards read so far, in the memory -/
def CdS (q : Nat) (ξ : Xs) (dyn D : List ACell) (cs : List Cd) : Prop := D.length = 2 * cs.length ∧ ∀ k c, cs[k]? = some c → ∃ a v w p, ξ.2.2.2.2.1 q k = some (117 + (dyn.length + 2 * k)) ∧ HlD (dyn ++ D) (dyn.length + 2 * k) (cdB (117 + (dyn.length + 2 * k)) (nI c.1) a v w p) ∧ CdM c a v w p
theorem CdS.cg {q : Nat} {ξ ξ' : Xs} {dyn D : List ACell} {cs : List Cd} (h : CdS q ξ dyn D cs) (hx : ξ'.2.2.2.2.1 q = ξ.2.2.2.2.1 q) : CdS q ξ' dyn D cs := ⟨h.1, fun k c hc => by rw [hx]; exact h.2 k c hc⟩
theorem CdS.push {q : Nat} {ξ ξ' : Xs} {dyn D : List ACell} {cs : List Cd} {c : Cd} {a : Nat → Int32} {v : Int64} {w p : Int32} (h : CdS q ξ dyn D cs) (hx : ξ'.2.2.2.2.1 q = va_up (ξ.2.2.2.2.1 q) cs.length (some (117 + (dyn ++ D).length))) (hM : CdM c a v w p) : CdS q ξ' dyn (D ++ cdB (117 + (dyn ++ D).length) (nI c.1) a v w p) (cs ++ [c]) := by
  have hl : (dyn ++ D).length = dyn.length + 2 * cs.length := by rw [List.length_append, h.1]
  have e1 : (D ++ cdB (117 + (dyn ++ D).length) (nI c.1) a v w p).length = D.length + 2 := List.length_append
  have e2 : (cs ++ [c]).length = cs.length + 1 := List.length_append
  refine ⟨by rw [e1, e2, h.1]; omega, fun k c' hc => ?_⟩
  by_cases e : k = cs.length
  · subst e
    rw [List.getElem?_append_right (Nat.le_refl _), Nat.sub_self] at hc
    obtain rfl : c = c' := by injection hc
    refine ⟨a, v, w, p, ?_, ?_, hM⟩
    · rw [hx, va_up_self, hl]
    · intro i z hz
      rw [← List.append_assoc, hl, List.getElem?_append_right (by rw [hl]; omega), hl, show dyn.length + 2 * cs.length + i - (dyn.length + 2 * cs.length) = i by omega]
      exact hz
  · have hk : k < cs.length := by
      have := (List.getElem?_eq_some_iff.mp hc).1
      rw [List.length_append] at this
      have h1 : [c].length = 1 := rfl
      omega
    rw [List.getElem?_append_left hk] at hc
    obtain ⟨a', v', w', p', g1, g2, g3⟩ := h.2 k c' hc
    refine ⟨a', v', w', p', ?_, ?_, g3⟩
    · rw [hx, va_up_ne _ _ e]; exact g1
    · rw [← List.append_assoc]; exact g2.app
theorem xm_rq {ξ : Xs} {mid dyn : List ACell} {q : Nat} (hq : q = 6 ∨ q = 7) : (XM ξ mid dyn)[q]? = some (.inl (9, 40, .inr (.inr (.inr (.inr (ξ.2.2.2.2.1 q)))))) := by
  rcases hq with rfl | rfl <;> rfl
theorem xm_rsq {ξ : Xs} {mid dyn : List ACell} {q : Nat} (hq : q = 6 ∨ q = 7) (f : Nat → Option Nat) : (XM ξ mid dyn).set q (.inl (9, 40, .inr (.inr (.inr (.inr f))))) = XM (xR ξ q f) mid dyn := by
  rcases hq with rfl | rfl <;> rfl
theorem knT_le (t : Tok) : knT t ≤ 8 := by unfold knT; (repeat' split) <;> omega
theorem knT_1 {t : Tok} (h : ¬ knT t = 8) : t.1 = 1 := by
  unfold knT at h
  repeat' split at h
  all_goals first | (rename_i z; exact z.1) | (exact absurd rfl h)
