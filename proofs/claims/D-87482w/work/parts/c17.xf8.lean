/-! ===== the component: a new engine among the others ===== -/
/-- the reference with one more engine -/
def nwT (τ : Tw) (E A W : Nat) (rv : Nat → Int32) : Tw := tI (tA (tA (tA τ 6 (upd (τ.2.2.1 6) E (nI A))) 7 (upd (τ.2.2.1 7) E (nI W))) 9 (rngI (τ.2.2.1 9) (12 * E) W rv)) 5 (nI (E + 1))
section
variable {own : Nat → Nat} {ξ : Xs} {dyn : List ACell} {τ : Tw} {E A W : Nat} {rv : Nat → Int32}
theorem nwT_sm {e : Nat} (h : ¬ e = E) (hW : W ≤ 12) : SmE (nwT τ E A W rv) τ e := by
  have u6 : ∀ k, (nwT τ E A W rv).2.2.1 6 k = upd (τ.2.2.1 6) E (nI A) k := fun _ => rfl
  have u7 : ∀ k, (nwT τ E A W rv).2.2.1 7 k = upd (τ.2.2.1 7) E (nI W) k := fun _ => rfl
  have u9 : ∀ k, (nwT τ E A W rv).2.2.1 9 k = rngI (τ.2.2.1 9) (12 * E) W rv k := fun _ => rfl
  refine ⟨⟨(u6 _).trans (pk_un h), (u7 _).trans (pk_un h), rfl, rfl⟩, fun i hi => (u9 _).trans ?_, fun _ _ => rfl, fun _ _ => ⟨rfl, rfl, rfl, rfl⟩⟩
  unfold rngI; rw [if_neg (by omega)]
theorem Rel.newE (hRel : Rel own ξ dyn τ) (hE : gE τ = E) (hE4 : E < 4) (hA : 2 ≤ A ∧ A ≤ 7) (hW : 1 ≤ W ∧ W ≤ 12) (hrv : ∀ i, i < W → ∃ r, 2 ≤ r ∧ r ≤ 12 ∧ rv i = nI r) {c0 : ACell} {η : En} (hη : η = e0 A W η.2.2.2.2.2.2.1) (hηr : ∀ i, i < W → η.2.2.2.2.2.2.1 i = rv i) :
    Rel (fun k => if k < dyn.length then own k else if k = dyn.length then 0 else 10 + E) (xI (xR ξ 1 (va_up (ξ.2.2.2.2.1 1) E (some (117 + (dyn.length + 1))))) 6 (nI (E + 1))) (dyn ++ [c0] ++ enB (117 + (dyn.length + 1)) η) (nwT τ E A W rv) := by
  obtain ⟨hI, hAA, hB, hWW, hP, hR, hT, hEE, hC, hV⟩ := hRel
  have u6 : ∀ k, (nwT τ E A W rv).2.2.1 6 k = upd (τ.2.2.1 6) E (nI A) k := fun _ => rfl
  have u7 : ∀ k, (nwT τ E A W rv).2.2.1 7 k = upd (τ.2.2.1 7) E (nI W) k := fun _ => rfl
  have u9 : ∀ k, (nwT τ E A W rv).2.2.1 9 k = rngI (τ.2.2.1 9) (12 * E) W rv k := fun _ => rfl
  have u5 : (nwT τ E A W rv).1 5 = nI (E + 1) := rfl
  have g5 : gE (nwT τ E A W rv) = E + 1 := by show ix ((nwT τ E A W rv).1 5) = _; rw [u5, ix_nI (by omega)]
  have gA' : gA (nwT τ E A W rv) E = A := by show ix _ = _; rw [u6, pk_us, ix_nI (by omega)]
  have gW' : gW (nwT τ E A W rv) E = W := by show ix _ = _; rw [u7, pk_us, ix_nI (by omega)]
  obtain ⟨i1, i2, i3, i4⟩ := hEE.1
  obtain ⟨z8, z12, z10⟩ := i4 E (by omega) hE4
  have gU' : gU (nwT τ E A W rv) E = 0 := by show ix (τ.2.2.1 8 E) = _; rw [z8]; rfl
  have gM' : gM (nwT τ E A W rv) E = 0 := by show ix (τ.2.2.1 12 E) = _; rw [z12]; rfl
  have r9 : ∀ i, i < W → (nwT τ E A W rv).2.2.1 9 (12 * E + i) = rv i := fun i hi => by
    rw [u9]; unfold rngI; rw [if_pos (by omega), show 12 * E + i - 12 * E = i by omega]
  have f10 : ∀ a i, a < 7 → i < 12 → (nwT τ E A W rv).2.2.1 10 (12 * (7 * E + a) + i) = 0 := fun a i ha hi => z10 _ (by omega) (by omega)
  have hd : ∀ k c, dyn[k]? = some c → (dyn ++ [c0] ++ enB (117 + (dyn.length + 1)) η)[k]? = some c ∧ (if k < dyn.length then own k else if k = dyn.length then 0 else 10 + E) = own k := fun k c hc => by
    have hl := (List.getElem?_eq_some_iff.mp hc).1
    exact ⟨by rw [List.append_assoc, List.getElem?_append_left hl]; exact hc, if_pos hl⟩
  have xr : ∀ p, ¬ p = 1 → (xI (xR ξ 1 (va_up (ξ.2.2.2.2.1 1) E (some (117 + (dyn.length + 1))))) 6 (nI (E + 1))).2.2.2.2.1 p = ξ.2.2.2.2.1 p := fun p h => va_up_ne _ _ h
  have x1 : (xI (xR ξ 1 (va_up (ξ.2.2.2.2.1 1) E (some (117 + (dyn.length + 1))))) 6 (nI (E + 1))).2.2.2.2.1 1 = va_up (ξ.2.2.2.2.1 1) E (some (117 + (dyn.length + 1))) := rfl
  have hOk : EngOk (nwT τ E A W rv) E := by
    unfold EngOk
    rw [gA', gW', gU', gM']
    refine ⟨⟨hA.1, hA.2, (u6 _).trans pk_us⟩, ⟨hW.1, hW.2, (u7 _).trans pk_us⟩, ⟨by omega, z8⟩, ⟨by omega, z12⟩, fun i hi => ?_, fun x hx i hi => ?_⟩
    · obtain ⟨r, h1, h2, h3⟩ := hrv i hi
      have e1 : gR (nwT τ E A W rv) E i = r := by show ix _ = _; rw [r9 i hi, h3, ix_nI (by omega)]
      rw [e1, r9 i hi]; exact ⟨h1, h2, h3⟩
    · obtain ⟨r, h1, h2, h3⟩ := hrv i hi
      have e1 : gR (nwT τ E A W rv) E i = r := by show ix _ = _; rw [r9 i hi, h3, ix_nI (by omega)]
      have e2 : gF (nwT τ E A W rv) E x i = 0 := by show ix _ = _; rw [f10 x i (by omega) (by omega)]; rfl
      rw [e1, e2, f10 x i (by omega) (by omega)]; exact ⟨by omega, rfl⟩
  have hIE : InvE (nwT τ E A W rv) := by
    unfold InvE
    rw [g5]
    refine ⟨by omega, u5, fun e he => ?_, fun e h1 h2 => i4 e (by omega) h2⟩
    by_cases h : e = E
    · subst h; exact ⟨hOk, fun m hm => absurd hm (by rw [gM']; omega)⟩
    · have hs := nwT_sm (τ := τ) (A := A) (rv := rv) h hW.2
      exact ⟨hs.ok (i3 e (by omega)).1, hs.mis (i3 e (by omega)).1 (i3 e (by omega)).2⟩
  have hRE : RE (fun k => if k < dyn.length then own k else if k = dyn.length then 0 else 10 + E) (xI (xR ξ 1 (va_up (ξ.2.2.2.2.1 1) E (some (117 + (dyn.length + 1))))) 6 (nI (E + 1))) (dyn ++ [c0] ++ enB (117 + (dyn.length + 1)) η) (nwT τ E A W rv) := by
    refine ⟨hIE, fun e he => ?_⟩
    rw [g5] at he
    by_cases h : e = E
    · subst h
      refine ⟨dyn.length + 1, η, by rw [x1, va_up_self], fun k c hc => ?_, fun k hk => ?_, ?_⟩
      · rw [List.getElem?_append_right (by rw [List.length_append]; show dyn.length + 1 ≤ _; omega), List.length_append]
        show (enB _ η)[dyn.length + 1 + k - (dyn.length + 1)]? = _
        rw [show dyn.length + 1 + k - (dyn.length + 1) = k by omega]; exact hc
      · show (if _ then _ else if _ then _ else _) = _
        rw [if_neg (by omega), if_neg (by omega)]
      · unfold EnR
        rw [gA', gW', gM']
        rw [hη]
        refine ⟨rfl, rfl, z8.symm, z12.symm, fun m hm => absurd hm (by omega), fun i hi => ?_, fun a ha i hi => (f10 a i (by omega) (by omega)).symm⟩
        exact (hηr i hi).trans (r9 i hi).symm
    · obtain ⟨b, η1, k1, k2, k3, k4⟩ := hEE.2 e (by omega)
      refine ⟨b, η1, by rw [x1, va_up_ne _ _ h]; exact k1, fun k c hc => (hd _ _ (k2 k c hc)).1, fun k hk => ?_, (nwT_sm h hW.2).R (i3 e (by omega)).1 k4⟩
      have hl : k < (enB (117 + b) η1).length := by rw [enB_len]; exact hk
      exact (hd _ _ (k2 k _ (List.getElem?_eq_getElem hl))).2.trans (k3 k hk)
  have kA : ∀ k, k ∉ [6, 7, 9] → (nwT τ E A W rv).2.2.1 k = τ.2.2.1 k := fun k hk => (va_up_ne _ _ (fun e => hk (by rw [e]; decide))).trans ((va_up_ne _ _ (fun e => hk (by rw [e]; decide))).trans (va_up_ne _ _ (fun e => hk (by rw [e]; decide))))
  have kI : ∀ k, ¬ k = 5 → (nwT τ E A W rv).1 k = τ.1 k := fun k hk => pk_un hk
  have sA : ∀ (L : List Nat), (∀ k ∈ L, k ∉ [6, 7, 9]) → ∀ k ∈ L, (nwT τ E A W rv).2.2.1 k = τ.2.2.1 k := fun L h k hk => kA k (h k hk)
  have sI : ∀ (L : List Nat), (∀ k ∈ L, ¬ k = 5) → ∀ k ∈ L, (nwT τ E A W rv).1 k = τ.1 k := fun L h k hk => kI k (h k hk)
  refine ⟨RI.up (ξ := xR ξ 1 (va_up (ξ.2.2.2.2.1 1) E (some (117 + (dyn.length + 1))))) (τ := tA (tA (tA τ 6 (upd (τ.2.2.1 6) E (nI A))) 7 (upd (τ.2.2.1 7) E (nI W))) 9 (rngI (τ.2.2.1 9) (12 * E) W rv)) hI 6 5 rfl (by decide), ((hAA.t 6 _ (by decide)).t 7 _ (by decide)).t 9 _ (by decide), hB,
    RW.cg (ξ := xI (xR ξ 1 (va_up (ξ.2.2.2.2.1 1) E (some (117 + (dyn.length + 1))))) 6 (nI (E + 1))) (τ := τ) hWW (sI _ (by decide)), RP.cg (τ := τ) hP (sI _ (by decide)) (sA _ (by decide)), RR.cg (τ := τ) hR (kI 74 (by decide)) (sA _ (by decide)),
    RT.cg (τ := τ) (hT.dy (t := 4) (fun _ _ _ => rfl) (fun _ _ _ => rfl) (fun _ _ _ => rfl) (fun _ _ _ _ _ => rfl) (fun k c hc _ => hd k c hc) (fun h => absurd h (by omega))) (sA _ (by decide)) rfl, hRE,
    RC.cg (τ := τ) (hC.dy (fun p hp => xr p (by omega)) rfl (fun k c hc _ => hd k c hc)) (kI 41 (by decide)) (sA _ (by decide)) rfl, ?_⟩
  obtain ⟨hVT, hVJ, hVR, hVF, hVN, hV0⟩ := hV
  exact ⟨hVT.cg (sA _ (by decide)), hVJ.cg (kI 82 (by decide)) (sA _ (by decide)), hVR.cg (sI _ (by decide)), hVF.cg (kI 29 (by decide)), hVN.cg (kA 51 (by decide)) (kA 52 (by decide)) (kA 53 (by decide)), fun h => (kI 62 (by decide)).trans (hV0 ((kI 60 (by decide)).symm.trans h))⟩
end
