/-! ===== the component: an engine among the others ===== -/
/-- cells put in another's place -/
def rpB (dyn : List ACell) (b : Nat) (cs : List ACell) : List ACell := dyn.take b ++ (cs ++ dyn.drop (b + cs.length))
theorem rpB_tl {dyn : List ACell} {b : Nat} {cs : List ACell} (hl : b + cs.length ≤ dyn.length) : (dyn.take b).length = b := by rw [List.length_take]; omega
theorem rpB_len {dyn : List ACell} {b : Nat} {cs : List ACell} (hl : b + cs.length ≤ dyn.length) : (rpB dyn b cs).length = dyn.length := by
  rw [rpB, List.length_append, List.length_append, rpB_tl hl, List.length_drop]; omega
theorem rpB_in {dyn : List ACell} {b : Nat} {cs : List ACell} (hl : b + cs.length ≤ dyn.length) {k : Nat} (hk : k < cs.length) : (rpB dyn b cs)[b + k]? = cs[k]? := by
  rw [rpB, List.getElem?_append_right (by rw [rpB_tl hl]; omega), rpB_tl hl, show b + k - b = k by omega, List.getElem?_append_left hk]
theorem rpB_out {dyn : List ACell} {b : Nat} {cs : List ACell} (hl : b + cs.length ≤ dyn.length) {k : Nat} (hk : k < b ∨ b + cs.length ≤ k) : (rpB dyn b cs)[k]? = dyn[k]? := by
  rcases hk with h | h
  · rw [rpB, List.getElem?_append_left (by rw [rpB_tl hl]; exact h), List.getElem?_take, if_pos h]
  · rw [rpB, List.getElem?_append_right (by rw [rpB_tl hl]; omega), rpB_tl hl, List.getElem?_append_right (by omega), List.getElem?_drop]
    congr 1; omega
theorem HlD.le {dyn : List ACell} {b : Nat} {cs : List ACell} (h : HlD dyn b cs) (hc : 0 < cs.length) : b + cs.length ≤ dyn.length := by
  have h1 := h (cs.length - 1) _ (List.getElem?_eq_getElem (by omega))
  have := (List.getElem?_eq_some_iff.mp h1).1
  omega
theorem HlD.spl {dyn : List ACell} {b : Nat} {cs : List ACell} (h : HlD dyn b cs) (hc : 0 < cs.length) : dyn = rpB dyn b cs := by
  have hl := h.le hc
  refine List.ext_getElem? (fun i => ?_)
  by_cases h1 : i < b ∨ b + cs.length ≤ i
  · rw [rpB_out hl h1]
  · obtain ⟨k, rfl⟩ : ∃ k, i = b + k := ⟨i - b, by omega⟩
    have hk : k < cs.length := by omega
    rw [rpB_in hl hk, List.getElem?_eq_getElem hk]
    exact h k _ (List.getElem?_eq_getElem hk)
theorem rpB_Hl {dyn : List ACell} {b : Nat} {cs : List ACell} (hl : b + cs.length ≤ dyn.length) : HlD (rpB dyn b cs) b cs := fun k c hc => by
  rw [rpB_in hl (List.getElem?_eq_some_iff.mp hc).1]; exact hc
theorem rpB_rpB {dyn : List ACell} {b : Nat} {cs ds : List ACell} (hl : b + cs.length ≤ dyn.length) (h : ds.length = cs.length) : rpB (rpB dyn b cs) b ds = rpB dyn b ds := by
  have h2 : b + ds.length ≤ (rpB dyn b cs).length := by rw [rpB_len hl]; omega
  refine List.ext_getElem? (fun i => ?_)
  by_cases h1 : i < b ∨ b + cs.length ≤ i
  · rw [rpB_out h2 (by omega), rpB_out hl h1, rpB_out (by omega) (by omega)]
  · obtain ⟨k, rfl⟩ : ∃ k, i = b + k := ⟨i - b, by omega⟩
    rw [rpB_in h2 (by omega), rpB_in (by omega) (by omega)]
theorem enB_pos (b : Nat) (η : En) : 0 < (enB b η).length := by rw [enB_len]; omega
/-- an engine in the component's memory -/
theorem xm_em {ξ : Xs} {mid dyn : List ACell} (hm : mid.length = 61) {b : Nat} {η : En} (h : HlD dyn b (enB (117 + b) η)) : ∃ pre post, pre.length = 117 + b ∧ XM ξ mid dyn = EM pre η post ∧ ∀ η' : En, η'.1 = η.1 → EM pre η' post = XM ξ mid (rpB dyn b (enB (117 + b) η')) := by
  have hl := h.le (enB_pos _ _)
  have h0 : (xW ξ ++ (mid ++ dyn.take b)).length = 117 + b := by
    rw [List.length_append, List.length_append, hm, rpB_tl hl, show (xW ξ).length = 56 from rfl]; omega
  refine ⟨xW ξ ++ (mid ++ dyn.take b), dyn.drop (b + (8 + 2 * η.1)), h0, ?_, fun η' e => ?_⟩
  · rw [EM, h0, XM]
    conv => lhs; rw [h.spl (enB_pos _ _)]
    rw [rpB, enB_len]
    simp only [List.append_assoc]
  · rw [EM, h0, XM, rpB, enB_len, e]
    simp only [List.append_assoc]
section
variable {own : Nat → Nat} {ξ : Xs} {dyn dyn' : List ACell} {τ τ' : Tw}
theorem RT.dy2 (h : RT own ξ dyn τ) (hd : ∀ k c, dyn[k]? = some c → own k < 10 → dyn'[k]? = some c) : RT own ξ dyn' τ := by
  intro t ht
  rcases h t ht with g | ⟨s, n, r, g, g1, g2, g3, g4, g5, g6, g7, g8⟩
  · exact Or.inl g
  · exact Or.inr ⟨s, n, r, g, g1, g2, g3, g4, g5, hd r _ g6 (by omega), g7, g8⟩
theorem RC.dy2 (h : RC own ξ dyn τ) (hd : ∀ k c, dyn[k]? = some c → own k = 100 → dyn'[k]? = some c) : RC own ξ dyn' τ := by
  obtain ⟨g1, p, g2, g3, g4, g5⟩ := h
  refine ⟨g1, p, g2, g3, g4, fun k hk => ?_⟩
  obtain ⟨b, K, at_, v, w, q, k1, k2, k3, k4, k5⟩ := g5 k hk
  have y0 := hd _ _ (k2 0 _ rfl) k3
  have y1 := hd _ _ (k2 1 _ rfl) k4
  refine ⟨b, K, at_, v, w, q, k1, fun j c hc => ?_, k3, k4, k5⟩
  rcases j with - | - | j
  · rw [show c = _ from (Option.some.inj hc).symm]; exact y0
  · rw [show c = _ from (Option.some.inj hc).symm]; exact y1
  · cases hc
theorem Rel.en (hRel : Rel own ξ dyn τ) {e b : Nat} {η η' : En} (he : e < gE τ) (hR : ξ.2.2.2.2.1 1 e = some (117 + b)) (hH : HlD dyn b (enB (117 + b) η)) (hown : ∀ k, k < 8 + 2 * η.1 → own (b + k) = 10 + e) (h1' : η'.1 = η.1)
    (q1 : τ'.1 = τ.1) (q2 : ∀ k, k ∉ [8, 10, 12, 13, 14, 15, 16] → τ'.2.2.1 k = τ.2.2.1 k) (q3 : τ'.2.2.2 = τ.2.2.2) (hI' : InvE τ') (ho : ∀ e' η1, e' < gE τ → ¬ e' = e → EnR η1 τ e' → EnR η1 τ' e') (hn : EnR η' τ' e) : Rel own ξ (rpB dyn b (enB (117 + b) η')) τ' := by
  obtain ⟨rI, rA, rB, rW, rP, rR, rT, rE, rC, rVT, rVJ, rVR, rVF, rVN, rV0⟩ := hRel
  have hl : b + (enB (117 + b) η').length ≤ dyn.length := by
    have := hH.le (enB_pos _ _)
    rw [enB_len] at this ⊢
    omega
  have hd : ∀ k c, dyn[k]? = some c → ¬ own k = 10 + e → (rpB dyn b (enB (117 + b) η'))[k]? = some c := fun k c hc hk => by
    refine (rpB_out hl ?_).trans hc
    rw [enB_len]
    by_cases h : k < b ∨ b + (8 + 2 * η'.1) ≤ k
    · exact h
    · exact absurd (by have := hown (k - b) (by omega); rw [show b + (k - b) = k by omega] at this; exact this) hk
  have kA : ∀ q ∈ rlA, q.2 ∉ [8, 10, 12, 13, 14, 15, 16] := by decide
  have gE' : gE τ' = gE τ := by unfold gE; rw [q1]
  have gE4 := rE.1.1
  refine ⟨fun q hq => (rI q hq).trans (congrFun q1 _).symm, fun q hq => (rA q hq).trans (q2 _ (kA q hq)).symm, fun q hq => (rB q hq).trans (congrFun q3 _).symm,
    rW.cg (fun k _ => congrFun q1 k), rP.cg (fun k _ => congrFun q1 k) (fun k hk => q2 k (fun z => by revert hk z; simp; omega)), rR.cg (congrFun q1 _) (fun k hk => q2 k (fun z => by revert hk z; simp; omega)),
    (rT.dy2 (fun k c hc hk => hd k c hc (by omega))).cg (fun k hk => q2 k (fun z => by revert hk z; simp; omega)) (congrFun q3 _), ⟨hI', fun e' he' => ?_⟩,
    (rC.dy2 (fun k c hc hk => hd k c hc (by omega))).cg (congrFun q1 _) (fun k hk => q2 k (fun z => by revert hk z; simp; omega)) (congrFun q3 _),
    rVT.cg (fun k hk => q2 k (fun z => by revert hk z; simp; omega)), rVJ.cg (congrFun q1 _) (fun k hk => q2 k (fun z => by revert hk z; simp; omega)), rVR.cg (fun k _ => congrFun q1 k), rVF.cg (congrFun q1 _),
    rVN.cg (q2 51 (by decide)) (q2 52 (by decide)) (q2 53 (by decide)), fun h => (congrFun q1 62).trans (rV0 ((congrFun q1 60).symm.trans h))⟩
  rw [gE'] at he'
  by_cases h : e' = e
  · subst h
    exact ⟨b, η', hR, rpB_Hl hl, fun k hk => hown k (by omega), hn⟩
  · obtain ⟨b1, η1, k1, k2, k3, k4⟩ := rE.2 e' he'
    refine ⟨b1, η1, k1, fun k c hc => hd _ _ (k2 k c hc) ?_, k3, ho e' η1 he' h k4⟩
    have hk := (List.getElem?_eq_some_iff.mp hc).1
    rw [enB_len] at hk
    rw [k3 k hk]; omega
end
