/-! ===== the component: run (2) ===== -/
theorem xB_xB (ξ : Xs) (k : Nat) (a b : Nat → Int64) : xB (xB ξ k a) k b = xB ξ k b := by
  have h : va_up (va_up ξ.2.2.2.1 k a) k b = va_up ξ.2.2.2.1 k b := by funext j; unfold va_up; split <;> rfl
  exact congrArg (fun z => (ξ.1, ξ.2.1, ξ.2.2.1, z, ξ.2.2.2.2)) h
theorem xB_self (ξ : Xs) (k : Nat) : xB ξ k (ξ.2.2.2.1 k) = ξ := by
  have h : va_up ξ.2.2.2.1 k (ξ.2.2.2.1 k) = ξ.2.2.2.1 := by
    funext j; unfold va_up; split
    · rename_i e; rw [e]
    · rfl
  show (ξ.1, ξ.2.1, ξ.2.2.1, va_up ξ.2.2.2.1 k (ξ.2.2.2.1 k), ξ.2.2.2.2) = ξ
  rw [h]
theorem RIm.up {ξ : Xs} {τ : Tw} (h : RIm ξ τ) (i j : Nat) {v w : Int32} (hv : v = w) (hd : ∀ q ∈ rlM, (q.1 = i ↔ q.2 = j)) : RIm (xI ξ i v) (tI τ j w) := by
  subst hv
  intro q hq
  show upd ξ.1 i v q.1 = upd τ.1 j v q.2
  by_cases e : q.1 = i
  · rw [e, (hd q hq).mp e, pk_us, pk_us]
  · rw [pk_un e, pk_un (fun z => e ((hd q hq).mpr z))]; exact h q hq
set_option maxHeartbeats 4000000 in
set_option maxRecDepth 100000 in
theorem x_runE {ξ : Xs} {mid dyn : List ACell} {n q : Nat} {v : Int32} (hn : n ≤ 40) (hq : q ≤ 100) (e7 : ξ.1 7 = nI n) (e22 : ξ.1 22 = v) (hv : ¬ v = 0) {Q : Qfun} (hE : E cX0_run (RX0, (some .int), 2, 4, (0, 0), false, []) Q noX 0 0 126 [some (.ref 0), none] [] (XM ξ mid dyn)) :
    E cX0_run (RX0, (some .int), 2, 4, (0, 0), false, []) Q noX 0 0 73 [some (.ref 0), some (.int (nI q))] [] (XM ξ mid dyn) := by
  refine e_iload_n dX0_run_73 1 rfl rfl ?_
  refine e_aload_n dX0_run_74 0 rfl rfl rfl ?_
  refine e_getf (v := (.int (ξ.1 7))) dX0_run_75 rfl fX0_46 (xm_o0) rfl ?_
  refine e_top (congrArg Value.int e7) ?_
  refine e_icmp_geN q n 126 (by omega) (by omega) dX0_run_78 (by decide) (fun h78 => ?_) (fun h78 => ?_)
  · refine e_forget (i := 1) (ln_s ln_0) ?_
    exact hE
  · refine e_aload_n dX0_run_81 0 rfl rfl rfl ?_
    refine e_getf (v := (.int (ξ.1 22))) dX0_run_82 rfl fX0_343 (xm_o0) rfl ?_
    refine e_top (congrArg Value.int e22) ?_
    refine e_if_ne 126 dX0_run_85 (by decide) (fun h85 => ?_) (fun h85 => ?_)
    · refine e_forget (i := 1) (ln_s ln_0) ?_
      exact hE
    · exact absurd h85 hv

set_option maxHeartbeats 4000000 in
set_option maxRecDepth 100000 in
/-- a loop of run -/
theorem x_run_loop6 {ξ0 : Xs} {mid dyn : List ACell} (hm : mid.length = 61) {n : Nat} {τ0 : Tw} (hn : n ≤ 40) (hp4_0 : ξ0.2.2.2.2.2.1 4 = some 6) (hcards : ∀ k, k < n → ∃ b K at_ v w q, ξ0.2.2.2.2.1 6 k = some (117 + b) ∧ HlD dyn b (cdB (117 + b) K at_ v w q) ∧ CdR K at_ v w τ0 k) (hOk : ∀ k, k < n → CdOk τ0 n k) (hwb0 : ∀ k, k < n → τ0.2.2.1 43 k = 0 → -999999999999 ≤ τ0.2.2.2 56 k ∧ τ0.2.2.2 56 k ≤ 999999999999) {Q : Qfun} : ∀ (fuel : Nat) (k : Nat) (D : Nat) (P : Nat) (ξ : Xs) (ς : Tw), k ≤ n → D ≤ 5000 → 5001 < D + fuel → Sy mI lA mB ξ ξ0 → RIm ξ ς → RB ξ ς → ς.1 41 = nI n → ς.1 66 = nI D → ς.1 64 = 0 → P ≤ 40 → ς.1 62 = nI P → ς.2.2.1 = τ0.2.2.1 → ς.2.2.2 56 = τ0.2.2.2 56 → SBd ς → (∀ ξ2 : Xs, Sy mI lA mB ξ2 ξ0 → RIm ξ2 (runN fuel k ς) → RB ξ2 (runN fuel k ς) → E cX0_run (RX0, (some .int), 2, 4, (0, 0), false, []) Q noX 0 0 126 [some (.ref 0), none] [] (XM ξ2 mid dyn)) →
    E cX0_run (RX0, (some .int), 2, 4, (0, 0), false, []) Q noX 0 0 73 [some (.ref 0), some (.int (nI k))] [] (XM ξ mid dyn) := by
  intro fuel
  induction fuel with
  | zero => intro k D P ξ ς hkn hD hf hS hI hB e41 eD h64 hP eP hAr hB56 hsb hE; exact absurd hf (by omega)
  | succ fuel ih =>
    intro k D P ξ ς hkn hD hf hS hI hB e41 eD h64 hP eP hAr hB56 hsb hE
    have hwb : ∀ k, k < n → ς.2.2.1 43 k = 0 → -999999999999 ≤ ς.2.2.2 56 k ∧ ς.2.2.2 56 k ≤ 999999999999 := by rw [hAr, hB56]; exact hwb0
    refine e_iload_n dX0_run_73 1 rfl rfl ?_
    refine e_aload_n dX0_run_74 0 rfl rfl rfl ?_
    refine e_getf (v := (.int (ξ.1 7))) dX0_run_75 rfl fX0_46 (xm_o0) rfl ?_
    refine e_top (congrArg Value.int (hI.at 7 41 (by decide))) ?_
    refine e_top (congrArg Value.int e41) ?_
    refine e_icmp_geN k n 126 (by omega) (by omega) dX0_run_78 (by decide) (fun h78 => ?_) (fun h78 => ?_)
    · refine e_forget (i := 1) (ln_s ln_0) ?_
      have eR : runN (fuel + 1) k ς = ς := by rw [runN, if_pos (fun z => absurd z.2 (by rw [e41]; exact fun y => absurd ((nI_ltN (by omega) (by omega)).mp y) (by omega)))]
      rw [eR] at hE
      exact hE ξ hS hI hB
    · have gA : ς.1 64 = 0 ∧ nI k < ς.1 41 := ⟨h64, by rw [e41]; exact (nI_ltN (by omega) (by omega)).mpr (by omega)⟩
      refine e_aload_n dX0_run_81 0 rfl rfl rfl ?_
      refine e_getf (v := (.int (ξ.1 22))) dX0_run_82 rfl fX0_343 (xm_o0) rfl ?_
      refine e_top (congrArg Value.int (hI.at 22 64 (by decide))) ?_
      refine e_top (congrArg Value.int h64) ?_
      refine e_if_ne_f (by decide) 126 dX0_run_85 (by decide) ?_
      refine e_aload_n dX0_run_88 0 rfl rfl rfl ?_
      refine e_getf (v := (.int (ξ.1 24))) dX0_run_89 rfl fX0_349 (xm_o0) rfl ?_
      refine e_top (congrArg Value.int (hI.at 24 66 (by decide))) ?_
      refine e_top (congrArg Value.int eD) ?_
      refine e_sipush 5000 dX0_run_92 rfl ?_
      refine e_icmp_neN D 5000 111 (by omega) (by omega) dX0_run_95 (by decide) (fun h95 => ?_) (fun h95 => ?_)
      · have g66 : ¬ ς.1 66 = 5000 := fun z => h95 ((nI_eqN (b := 5000) (by omega) (by omega)).mp (by rw [← eD]; exact z))
        refine e_aload_n dX0_run_111 0 rfl rfl rfl ?_
        refine e_aload_n dX0_run_112 0 rfl rfl rfl ?_
        refine e_getf (v := (rfO (ξ.2.2.2.2.2.1 4))) dX0_run_113 rfl fX0_39 (xm_o0) rfl ?_
        refine e_top (congrArg rfO ((congrArg (fun z => z.2.1 4) hS.2.2.2).trans hp4_0)) ?_
        obtain ⟨b, K, at_, v, w, q, hRk, hHl, hCR0⟩ := hcards k (by omega)
        have hCR : CdR K at_ v w ς k := hCR0.cg (fun j _ => by rw [hAr]) hB56
        have hCO : CdOk ς n k := (hOk k (by omega)).cg2 (fun j _ => by rw [hAr])
        refine e_iload_n dX0_run_116 1 rfl rfl ?_
        refine e_aald (f := ξ.2.2.2.2.1 6) (j := k) dX0_run_117 xm_r6 (fun _ => rfl) rfl (by omega) (by decide) ?_
        refine e_top (congrArg rfO ((congrArg (fun z => z.1 6 k) hS.2.2.2).trans hRk)) ?_
        refine e_iload_n dX0_run_118 1 rfl rfl ?_
        refine e_callVQ (As := [.ref (117 + b), .int (nI k)]) (rest := []) dX0_run_119 rfl mvX0_358 (xm_o0) rfl (x_does hm (by omega) hHl hI hB h64 hCR hCO hsb hP eP) (Nat.le_of_ble_eq_true rfl) rfl rfl (Nat.le_of_ble_eq_true rfl) (Nat.zero_le _) (Nat.zero_le _) (fun v0 M0 h0_ _ => ?_)
        obtain ⟨ξ1, rfl, hS1, ⟨hz, rfl, hI1, hB1⟩ | ⟨hz, rfl, hI1, hB1⟩⟩ := h0_
        · refine e_istore_n dX0_run_122 1 rfl (ls_1 rfl) (Nat.le_of_ble_eq_true rfl) ?_
          refine e_goto 73 dX0_run_123 (by decide) ?_
          have eR : runN (fuel + 1) k ς = tI (tI ς 64 (spAlm ς k)) 65 (nI k) := by rw [runN, if_neg (fun z => z gA), if_neg g66, if_pos hz]
          rw [eR] at hE
          exact x_runE (q := k + 1) hn (by omega) ((hI1.at 7 41 (by decide)).trans e41) (hI1.at 22 64 (by decide)) (fun z => absurd (show (0 : Int32) < 0 from Eq.mp (congrArg (fun y : Int32 => (0 : Int32) < y) (show spAlm ς k = 0 from z)) hz) (by decide)) (hE ξ1 (hS1.trans hS) hI1 (fun q hq => hB1 q hq))
        · refine e_istore_n dX0_run_122 1 rfl (ls_1 rfl) (Nat.le_of_ble_eq_true rfl) ?_
          refine e_goto 73 dX0_run_123 (by decide) ?_
          have eR : runN (fuel + 1) k ς = runN fuel (spDoes (tI (tI ς 64 0) 66 (ς.1 66 + 1)) k).1 (spDoes (tI (tI ς 64 0) 66 (ς.1 66 + 1)) k).2 := by rw [runN, if_neg (fun z => z gA), if_neg g66, if_neg hz]
          rw [eR] at hE
          have hfr := spDoes_fr (tI (tI ς 64 0) 66 (ς.1 66 + 1)) k
          obtain ⟨P2, hP2, eP2⟩ : ∃ P2, P2 ≤ 40 ∧ (spDoes (tI (tI ς 64 0) 66 (ς.1 66 + 1)) k).2.1 62 = nI P2 := by
            rcases hfr.2.2.2.2.2 with h | ⟨h, h2⟩
            · exact ⟨P, hP, h.trans eP⟩
            · have hlt := spAlm_P (ς := ς) (spAlm_nn hz) ⟨hP, eP⟩ h
              exact ⟨P + 1, by omega, h2.trans (by show ς.1 62 + 1 = _; rw [eP]; exact nI_add _ 1)⟩
          refine ih _ (D + 1) P2 ξ1 (spDoes (tI (tI ς 64 0) 66 (ς.1 66 + 1)) k).2 (spDoes_k (by omega) (CdOk.cg rfl rfl rfl rfl rfl hCO)) (by omega) (by omega) (hS1.trans hS) hI1 hB1 (hfr.2.1.trans e41) (hfr.2.2.2.1.trans (by show ς.1 66 + 1 = _; rw [eD]; exact nI_add _ 1)) (hfr.2.2.1.trans rfl) hP2 eP2 (hfr.1.trans hAr) (hfr.2.2.2.2.1.trans hB56) (spDoes_sb (ς := tI (tI ς 64 0) 66 (ς.1 66 + 1)) (n := n) hsb (CdOk.cg rfl rfl rfl rfl rfl hCO) (fun z => hwb k (by omega) z) hz) hE
      · refine e_aload_n dX0_run_98 0 rfl rfl rfl ?_
        refine e_iconst 4 dX0_run_99 rfl ?_
        refine e_xputI dX0_run_100 rfl pX0_343 rfl (xm_o0) (Nat.le_of_ble_eq_true rfl) (xm_f22 _) ?_
        refine e_aload_n dX0_run_103 0 rfl rfl rfl ?_
        refine e_iload_n dX0_run_104 1 rfl rfl ?_
        refine e_xputI dX0_run_105 rfl pX0_346 rfl (xm_o0) (Nat.le_of_ble_eq_true rfl) (xm_f23 _) ?_
        refine e_goto 73 dX0_run_108 (by decide) ?_
        have g66 : ς.1 66 = 5000 := by rw [eD]; exact congrArg nI h95
        have eR : runN (fuel + 1) k ς = tI (tI ς 64 4) 65 (nI k) := by rw [runN, if_neg (fun z => z gA), if_pos g66]
        rw [eR] at hE
        have e7x : (xI (xI ξ 22 4) 23 (nI k)).1 7 = nI n := (hI.at 7 41 (by decide)).trans e41
        have e22x : (xI (xI ξ 22 4) 23 (nI k)).1 22 = 4 := rfl
        exact x_runE (q := k) (v := 4) hn (by omega) e7x e22x (by decide) (hE (xI (xI ξ 22 4) 23 (nI k)) ((hS.I _ rfl).I _ rfl) ((hI.up 22 64 rfl (by decide)).up 23 65 rfl (by decide)) hB)

set_option maxHeartbeats 4000000 in
set_option maxRecDepth 100000 in
/-- a loop of run -/
theorem x_run_loop7 {ξ0 : Xs} {mid dyn : List ACell} (hm : mid.length = 61) {n : Nat} {τ0 : Tw} (hn : n ≤ 40) (hp4_0 : ξ0.2.2.2.2.2.1 4 = some 7) (hcards : ∀ k, k < n → ∃ b K at_ v w q, ξ0.2.2.2.2.1 7 k = some (117 + b) ∧ HlD dyn b (cdB (117 + b) K at_ v w q) ∧ CdR K at_ v w τ0 k) (hOk : ∀ k, k < n → CdOk τ0 n k) (hwb0 : ∀ k, k < n → τ0.2.2.1 43 k = 0 → -999999999999 ≤ τ0.2.2.2 56 k ∧ τ0.2.2.2 56 k ≤ 999999999999) {Q : Qfun} : ∀ (fuel : Nat) (k : Nat) (D : Nat) (P : Nat) (ξ : Xs) (ς : Tw), k ≤ n → D ≤ 5000 → 5001 < D + fuel → Sy mI lA mB ξ ξ0 → RIm ξ ς → RB ξ ς → ς.1 41 = nI n → ς.1 66 = nI D → ς.1 64 = 0 → P ≤ 40 → ς.1 62 = nI P → ς.2.2.1 = τ0.2.2.1 → ς.2.2.2 56 = τ0.2.2.2 56 → SBd ς → (∀ ξ2 : Xs, Sy mI lA mB ξ2 ξ0 → RIm ξ2 (runN fuel k ς) → RB ξ2 (runN fuel k ς) → E cX0_run (RX0, (some .int), 2, 4, (0, 0), false, []) Q noX 0 0 126 [some (.ref 0), none] [] (XM ξ2 mid dyn)) →
    E cX0_run (RX0, (some .int), 2, 4, (0, 0), false, []) Q noX 0 0 73 [some (.ref 0), some (.int (nI k))] [] (XM ξ mid dyn) := by
  intro fuel
  induction fuel with
  | zero => intro k D P ξ ς hkn hD hf hS hI hB e41 eD h64 hP eP hAr hB56 hsb hE; exact absurd hf (by omega)
  | succ fuel ih =>
    intro k D P ξ ς hkn hD hf hS hI hB e41 eD h64 hP eP hAr hB56 hsb hE
    have hwb : ∀ k, k < n → ς.2.2.1 43 k = 0 → -999999999999 ≤ ς.2.2.2 56 k ∧ ς.2.2.2 56 k ≤ 999999999999 := by rw [hAr, hB56]; exact hwb0
    refine e_iload_n dX0_run_73 1 rfl rfl ?_
    refine e_aload_n dX0_run_74 0 rfl rfl rfl ?_
    refine e_getf (v := (.int (ξ.1 7))) dX0_run_75 rfl fX0_46 (xm_o0) rfl ?_
    refine e_top (congrArg Value.int (hI.at 7 41 (by decide))) ?_
    refine e_top (congrArg Value.int e41) ?_
    refine e_icmp_geN k n 126 (by omega) (by omega) dX0_run_78 (by decide) (fun h78 => ?_) (fun h78 => ?_)
    · refine e_forget (i := 1) (ln_s ln_0) ?_
      have eR : runN (fuel + 1) k ς = ς := by rw [runN, if_pos (fun z => absurd z.2 (by rw [e41]; exact fun y => absurd ((nI_ltN (by omega) (by omega)).mp y) (by omega)))]
      rw [eR] at hE
      exact hE ξ hS hI hB
    · have gA : ς.1 64 = 0 ∧ nI k < ς.1 41 := ⟨h64, by rw [e41]; exact (nI_ltN (by omega) (by omega)).mpr (by omega)⟩
      refine e_aload_n dX0_run_81 0 rfl rfl rfl ?_
      refine e_getf (v := (.int (ξ.1 22))) dX0_run_82 rfl fX0_343 (xm_o0) rfl ?_
      refine e_top (congrArg Value.int (hI.at 22 64 (by decide))) ?_
      refine e_top (congrArg Value.int h64) ?_
      refine e_if_ne_f (by decide) 126 dX0_run_85 (by decide) ?_
      refine e_aload_n dX0_run_88 0 rfl rfl rfl ?_
      refine e_getf (v := (.int (ξ.1 24))) dX0_run_89 rfl fX0_349 (xm_o0) rfl ?_
      refine e_top (congrArg Value.int (hI.at 24 66 (by decide))) ?_
      refine e_top (congrArg Value.int eD) ?_
      refine e_sipush 5000 dX0_run_92 rfl ?_
      refine e_icmp_neN D 5000 111 (by omega) (by omega) dX0_run_95 (by decide) (fun h95 => ?_) (fun h95 => ?_)
      · have g66 : ¬ ς.1 66 = 5000 := fun z => h95 ((nI_eqN (b := 5000) (by omega) (by omega)).mp (by rw [← eD]; exact z))
        refine e_aload_n dX0_run_111 0 rfl rfl rfl ?_
        refine e_aload_n dX0_run_112 0 rfl rfl rfl ?_
        refine e_getf (v := (rfO (ξ.2.2.2.2.2.1 4))) dX0_run_113 rfl fX0_39 (xm_o0) rfl ?_
        refine e_top (congrArg rfO ((congrArg (fun z => z.2.1 4) hS.2.2.2).trans hp4_0)) ?_
        obtain ⟨b, K, at_, v, w, q, hRk, hHl, hCR0⟩ := hcards k (by omega)
        have hCR : CdR K at_ v w ς k := hCR0.cg (fun j _ => by rw [hAr]) hB56
        have hCO : CdOk ς n k := (hOk k (by omega)).cg2 (fun j _ => by rw [hAr])
        refine e_iload_n dX0_run_116 1 rfl rfl ?_
        refine e_aald (f := ξ.2.2.2.2.1 7) (j := k) dX0_run_117 xm_r7 (fun _ => rfl) rfl (by omega) (by decide) ?_
        refine e_top (congrArg rfO ((congrArg (fun z => z.1 7 k) hS.2.2.2).trans hRk)) ?_
        refine e_iload_n dX0_run_118 1 rfl rfl ?_
        refine e_callVQ (As := [.ref (117 + b), .int (nI k)]) (rest := []) dX0_run_119 rfl mvX0_358 (xm_o0) rfl (x_does hm (by omega) hHl hI hB h64 hCR hCO hsb hP eP) (Nat.le_of_ble_eq_true rfl) rfl rfl (Nat.le_of_ble_eq_true rfl) (Nat.zero_le _) (Nat.zero_le _) (fun v0 M0 h0_ _ => ?_)
        obtain ⟨ξ1, rfl, hS1, ⟨hz, rfl, hI1, hB1⟩ | ⟨hz, rfl, hI1, hB1⟩⟩ := h0_
        · refine e_istore_n dX0_run_122 1 rfl (ls_1 rfl) (Nat.le_of_ble_eq_true rfl) ?_
          refine e_goto 73 dX0_run_123 (by decide) ?_
          have eR : runN (fuel + 1) k ς = tI (tI ς 64 (spAlm ς k)) 65 (nI k) := by rw [runN, if_neg (fun z => z gA), if_neg g66, if_pos hz]
          rw [eR] at hE
          exact x_runE (q := k + 1) hn (by omega) ((hI1.at 7 41 (by decide)).trans e41) (hI1.at 22 64 (by decide)) (fun z => absurd (show (0 : Int32) < 0 from Eq.mp (congrArg (fun y : Int32 => (0 : Int32) < y) (show spAlm ς k = 0 from z)) hz) (by decide)) (hE ξ1 (hS1.trans hS) hI1 (fun q hq => hB1 q hq))
        · refine e_istore_n dX0_run_122 1 rfl (ls_1 rfl) (Nat.le_of_ble_eq_true rfl) ?_
          refine e_goto 73 dX0_run_123 (by decide) ?_
          have eR : runN (fuel + 1) k ς = runN fuel (spDoes (tI (tI ς 64 0) 66 (ς.1 66 + 1)) k).1 (spDoes (tI (tI ς 64 0) 66 (ς.1 66 + 1)) k).2 := by rw [runN, if_neg (fun z => z gA), if_neg g66, if_neg hz]
          rw [eR] at hE
          have hfr := spDoes_fr (tI (tI ς 64 0) 66 (ς.1 66 + 1)) k
          obtain ⟨P2, hP2, eP2⟩ : ∃ P2, P2 ≤ 40 ∧ (spDoes (tI (tI ς 64 0) 66 (ς.1 66 + 1)) k).2.1 62 = nI P2 := by
            rcases hfr.2.2.2.2.2 with h | ⟨h, h2⟩
            · exact ⟨P, hP, h.trans eP⟩
            · have hlt := spAlm_P (ς := ς) (spAlm_nn hz) ⟨hP, eP⟩ h
              exact ⟨P + 1, by omega, h2.trans (by show ς.1 62 + 1 = _; rw [eP]; exact nI_add _ 1)⟩
          refine ih _ (D + 1) P2 ξ1 (spDoes (tI (tI ς 64 0) 66 (ς.1 66 + 1)) k).2 (spDoes_k (by omega) (CdOk.cg rfl rfl rfl rfl rfl hCO)) (by omega) (by omega) (hS1.trans hS) hI1 hB1 (hfr.2.1.trans e41) (hfr.2.2.2.1.trans (by show ς.1 66 + 1 = _; rw [eD]; exact nI_add _ 1)) (hfr.2.2.1.trans rfl) hP2 eP2 (hfr.1.trans hAr) (hfr.2.2.2.2.1.trans hB56) (spDoes_sb (ς := tI (tI ς 64 0) 66 (ς.1 66 + 1)) (n := n) hsb (CdOk.cg rfl rfl rfl rfl rfl hCO) (fun z => hwb k (by omega) z) hz) hE
      · refine e_aload_n dX0_run_98 0 rfl rfl rfl ?_
        refine e_iconst 4 dX0_run_99 rfl ?_
        refine e_xputI dX0_run_100 rfl pX0_343 rfl (xm_o0) (Nat.le_of_ble_eq_true rfl) (xm_f22 _) ?_
        refine e_aload_n dX0_run_103 0 rfl rfl rfl ?_
        refine e_iload_n dX0_run_104 1 rfl rfl ?_
        refine e_xputI dX0_run_105 rfl pX0_346 rfl (xm_o0) (Nat.le_of_ble_eq_true rfl) (xm_f23 _) ?_
        refine e_goto 73 dX0_run_108 (by decide) ?_
        have g66 : ς.1 66 = 5000 := by rw [eD]; exact congrArg nI h95
        have eR : runN (fuel + 1) k ς = tI (tI ς 64 4) 65 (nI k) := by rw [runN, if_neg (fun z => z gA), if_pos g66]
        rw [eR] at hE
        have e7x : (xI (xI ξ 22 4) 23 (nI k)).1 7 = nI n := (hI.at 7 41 (by decide)).trans e41
        have e22x : (xI (xI ξ 22 4) 23 (nI k)).1 22 = 4 := rfl
        exact x_runE (q := k) (v := 4) hn (by omega) e7x e22x (by decide) (hE (xI (xI ξ 22 4) 23 (nI k)) ((hS.I _ rfl).I _ rfl) ((hI.up 22 64 rfl (by decide)).up 23 65 rfl (by decide)) hB)

set_option maxHeartbeats 4000000 in
set_option maxRecDepth 100000 in
/-- a loop of run -/
theorem x_run0 {ξ0 : Xs} {mid dyn : List ACell} {Q : Qfun} : ∀ (fuel : Nat) (k : Nat) (w : Nat → Int64), k ≤ 20 → 20 < k + fuel → E cX0_run (RX0, (some .int), 2, 4, (0, 0), false, []) Q noX 0 0 36 [some (.ref 0), none] [] (XM (xB ξ0 18 (zroL w k (20 - k))) mid dyn) →
    E cX0_run (RX0, (some .int), 2, 4, (0, 0), false, []) Q noX 0 0 17 [some (.ref 0), some (.int (nI k))] [] (XM (xB ξ0 18 w) mid dyn) := by
  intro fuel
  induction fuel with
  | zero => intro k w hk hf hE; exact absurd hf (by omega)
  | succ fuel ih =>
    intro k w hk hf hE
    refine e_iload_n dX0_run_17 1 rfl rfl ?_
    refine e_bipush 20 dX0_run_18 rfl ?_
    refine e_icmp_geN k 20 36 (by omega) (by omega) dX0_run_20 (by decide) (fun h20 => ?_) (fun h20 => ?_)
    · refine e_forget (i := 1) (ln_s ln_0) ?_
      have e1 : 20 - k = 0 := by omega
      rw [e1, zroL_0] at hE
      exact hE
    · refine e_aload_n dX0_run_23 0 rfl rfl rfl ?_
      refine e_getf (v := (.ref 13)) dX0_run_24 rfl fX0_73 (xm_o0) rfl ?_
      refine e_iload_n dX0_run_27 1 rfl rfl ?_
      refine e_lconst 0 dX0_run_28 rfl ?_
      refine e_last (f := w) (j := k) dX0_run_29 (xm_a18) rfl (by omega) (by decide) ?_
      rw [xm_s18]
      refine e_incN k (k + 1) (inc1 _) dX0_run_30 rfl (ls_1 rfl) (Nat.le_of_ble_eq_true rfl) ?_
      refine e_goto 17 dX0_run_33 (by decide) ?_
      rw [xB_xB]
      refine ih (k + 1) _ (by omega) (by omega) ?_
      have e1 : 20 - k = 20 - (k + 1) + 1 := by omega
      rw [e1, ← zroL_s] at hE
      exact hE

theorem runN_P : ∀ (m k : Nat) (ς : Tw) {n : Nat}, k ≤ n → ς.1 41 = nI n → (∀ q, q < n → CdOk ς n q) → (∃ P, P ≤ 40 ∧ ς.1 62 = nI P) → ∃ P, P ≤ 40 ∧ (runN m k ς).1 62 = nI P
  | 0, _, _, _, _, _, _, h => h
  | m + 1, k, ς, n, hk, e41, hO, h => by
    rw [runN]
    split
    · exact h
    · rename_i h1
      split
      · exact h
      · split
        · exact h
        · rename_i h3
          have hfr := spDoes_fr (tI (tI ς 64 0) 66 (ς.1 66 + 1)) k
          obtain ⟨P, hP, eP⟩ := h
          have h1' := Classical.not_not.mp h1
          by_cases hkn : k < n
          · refine runN_P m _ _ (spDoes_k hkn ((hO k hkn).cg rfl rfl rfl rfl rfl)) (hfr.2.1.trans e41) (fun q hq => (hO q hq).cg (by rw [hfr.1]; rfl) (by rw [hfr.1]; rfl) (by rw [hfr.1]; rfl) (by rw [hfr.1]; rfl) (by rw [hfr.1]; rfl)) ?_
            rcases hfr.2.2.2.2.2 with h | ⟨h, h2⟩
            · exact ⟨P, hP, h.trans eP⟩
            · have hlt := spAlm_P (ς := ς) (spAlm_nn h3) ⟨hP, eP⟩ h
              exact ⟨P + 1, by omega, h2.trans (by show ς.1 62 + 1 = _; rw [eP]; exact nI_add _ 1)⟩
          · have e : k = n := by omega
            rw [e, e41] at h1'
            exact absurd h1'.2 (Int32.lt_irrefl)
set_option maxHeartbeats 4000000 in
set_option maxRecDepth 100000 in
/-- WheelTables.run -/
theorem x_run {ξ : Xs} {mid dyn : List ACell} {τ : Tw} {own : Nat → Nat} (hm : mid.length = 61) (hRel : Rel own ξ dyn τ) : Ct yX0_run (ws_ yX0_run cX0_run 2 (some .int)) 4 0 0 [.ref 0] (XM ξ mid dyn) (XQi mid (sp_run τ)) noX := by
  obtain ⟨hI, hA, hB, hW, hP, hR, hT, hE, hC, hV⟩ := id hRel
  obtain ⟨hVT, hVJ, hVR, hVF, hVN, hV0⟩ := id hV
  refine Ct.of (ini := false) (ls := [some (.ref 0), none]) (by decide) (Nat.le_of_ble_eq_true rfl) (fun h => by cases h) rfl ?_
  refine e_aload_n dX0_run_0 0 rfl rfl rfl ?_
  refine e_getf (v := (.int (ξ.1 7))) dX0_run_1 rfl fX0_46 (xm_o0) rfl ?_
  refine e_top (congrArg Value.int (hI.at 7 41 (by decide))) ?_
  refine e_iconst (-1) dX0_run_4 rfl ?_
  refine e_icmp_ne 15 dX0_run_5 (by decide) (fun h5 => ?_) (fun h5 => ?_)
  · refine e_iconst 0 dX0_run_15 rfl ?_
    refine e_istore_n dX0_run_16 1 rfl (ls_1 rfl) (Nat.le_of_ble_eq_true rfl) ?_
    refine E_mem (show XM (xB ξ 18 (ξ.2.2.2.1 18)) mid dyn = _ by rw [xB_self]) ?_
    refine x_run0 (ξ0 := ξ) 21 0 _ (by omega) (by omega) ?_
    refine e_aload_n dX0_run_36 0 rfl rfl rfl ?_
    refine e_iconst 0 dX0_run_37 rfl ?_
    refine e_xputI dX0_run_38 rfl pX0_337 rfl (xm_o0) (Nat.le_of_ble_eq_true rfl) (xm_f20 _) ?_
    refine e_aload_n dX0_run_41 0 rfl rfl rfl ?_
    refine e_iconst 0 dX0_run_42 rfl ?_
    refine e_xputI dX0_run_43 rfl pX0_340 rfl (xm_o0) (Nat.le_of_ble_eq_true rfl) (xm_f21 _) ?_
    refine e_aload_n dX0_run_46 0 rfl rfl rfl ?_
    refine e_iconst 0 dX0_run_47 rfl ?_
    refine e_xputI dX0_run_48 rfl pX0_343 rfl (xm_o0) (Nat.le_of_ble_eq_true rfl) (xm_f22 _) ?_
    refine e_aload_n dX0_run_51 0 rfl rfl rfl ?_
    refine e_iconst (-1) dX0_run_52 rfl ?_
    refine e_xputI dX0_run_53 rfl pX0_346 rfl (xm_o0) (Nat.le_of_ble_eq_true rfl) (xm_f23 _) ?_
    refine e_aload_n dX0_run_56 0 rfl rfl rfl ?_
    refine e_iconst 0 dX0_run_57 rfl ?_
    refine e_xputI dX0_run_58 rfl pX0_349 rfl (xm_o0) (Nat.le_of_ble_eq_true rfl) (xm_f24 _) ?_
    refine e_aload_n dX0_run_61 0 rfl rfl rfl ?_
    refine e_iconst 0 dX0_run_62 rfl ?_
    refine e_xputI dX0_run_63 rfl pX0_352 rfl (xm_o0) (Nat.le_of_ble_eq_true rfl) (xm_f26 _) ?_
    refine e_aload_n dX0_run_66 0 rfl rfl rfl ?_
    refine e_iconst 1 dX0_run_67 rfl ?_
    refine e_xputI dX0_run_68 rfl pX0_355 rfl (xm_o0) (Nat.le_of_ble_eq_true rfl) (xm_f25 _) ?_
    refine e_iconst 0 dX0_run_71 rfl ?_
    refine e_istore_n dX0_run_72 1 rfl (ls_1 rfl) (Nat.le_of_ble_eq_true rfl) ?_
    have hI0 : RIm (xI (xI (xI (xI (xI (xI (xI (xB ξ 18 (zroL (ξ.2.2.2.1 18) 0 20)) 20 0) 21 0) 22 0) 23 (-1)) 24 0) 26 0) 25 1) (tI (run0 τ) 0 (τ.1 0)) := (by
        intro q hq
        simp only [rlM, List.mem_cons, List.not_mem_nil, or_false] at hq
        rcases hq with rfl | rfl | rfl | rfl | rfl | rfl | rfl | rfl | rfl | rfl | rfl | rfl | rfl | rfl | rfl | rfl | rfl | rfl
        · first | exact hI (8, 0) (by decide) | rfl
        · first | exact hI (6, 5) (by decide) | rfl
        · first | exact hI (7, 41) (by decide) | rfl
        · first | exact hI (9, 31) (by decide) | rfl
        · first | exact hI (10, 32) (by decide) | rfl
        · first | exact hI (101, 29) (by decide) | rfl
        · first | exact hI (25, 60) (by decide) | rfl
        · first | exact hI (26, 61) (by decide) | rfl
        · first | exact hI (20, 62) (by decide) | rfl
        · first | exact hI (21, 63) (by decide) | rfl
        · first | exact hI (22, 64) (by decide) | rfl
        · first | exact hI (24, 66) (by decide) | rfl
        · first | exact hI (45, 78) (by decide) | rfl
        · first | exact hI (46, 79) (by decide) | rfl
        · first | exact hI (47, 81) (by decide) | rfl
        · first | exact hI (48, 77) (by decide) | rfl
        · first | exact hI (55, 82) (by decide) | rfl
        · first | exact hI (23, 65) (by decide) | rfl)
    have hB0 : RB (xI (xI (xI (xI (xI (xI (xI (xB ξ 18 (zroL (ξ.2.2.2.1 18) 0 20)) 20 0) 21 0) 22 0) 23 (-1)) 24 0) 26 0) 25 1) (tI (run0 τ) 0 (τ.1 0)) := by
      intro q hq
      simp only [rlB, List.mem_cons, List.not_mem_nil, or_false] at hq
      rcases hq with rfl | rfl
      · show zroL (ξ.2.2.2.1 18) 0 20 = zroL (τ.2.2.2 58) 0 20
        rw [hB.at 18 58 (by decide)]
      · exact hB.at 19 59 (by decide)
    obtain ⟨hM, p, hp, hp4, hp5, hcd⟩ := id hC
    obtain ⟨n, hn40, e41, hOk⟩ : ∃ n, n ≤ 40 ∧ τ.1 41 = nI n ∧ ∀ k, k < n → CdOk τ n k := hM.elim (fun z => absurd z h5) id
    have hcd2 : ∀ k, k < n → ∃ b K at_ v w q, ξ.2.2.2.2.1 p k = some (117 + b) ∧ HlD dyn b (cdB (117 + b) K at_ v w q) ∧ CdR K at_ v w τ k := fun k hk => by
      obtain ⟨b, K, at_, v, w, q, k1, k2, k3, k4, k5⟩ := hcd k (by rw [e41, ix_nI (by omega)]; exact hk)
      exact ⟨b, K, at_, v, w, q, k1, k2, k5⟩
    have hwb0 : ∀ k, k < n → τ.2.2.1 43 k = 0 → -999999999999 ≤ τ.2.2.2 56 k ∧ τ.2.2.2 56 k ≤ 999999999999 := fun k hk h0 => by
      obtain ⟨b, K, at_, v, w, q, k1, k2, k5⟩ := hcd2 k hk
      have := k5.2.2.2.1 h0
      rw [← this.2.1]; exact this.2.2
    have hsb : SBd (tI (run0 τ) 0 (τ.1 0)) := fun p hp => by
      show _ ≤ zroL (τ.2.2.2 58) 0 20 p ∧ zroL (τ.2.2.2 58) 0 20 p ≤ _
      unfold zroL
      rw [if_pos (by omega)]
      exact ⟨by decide, by decide⟩
    have fin : ∀ ξ2 : Xs, Sy mI lA mB ξ2 (xI (xI (xI (xI (xI (xI (xI (xB ξ 18 (zroL (ξ.2.2.2.1 18) 0 20)) 20 0) 21 0) 22 0) 23 (-1)) 24 0) 26 0) 25 1) → RIm ξ2 (runN 5002 0 (tI (run0 τ) 0 (τ.1 0))) → RB ξ2 (runN 5002 0 (tI (run0 τ) 0 (τ.1 0))) → E cX0_run (RX0, (some .int), 2, 4, (0, 0), false, []) (XQi mid (sp_run τ)) noX 0 0 126 [some (.ref 0), none] [] (XM ξ2 mid dyn) := by
      intro ξ2 hS2 hI2 hB2
      have eP2 := hI2.at 20 62 (by decide)
      refine e_aload_n dX0_run_126 0 rfl rfl rfl ?_
      refine e_aload_n dX0_run_127 0 rfl rfl rfl ?_
      refine e_getf (v := .int (ξ2.1 20)) dX0_run_128 rfl fX0_337 (xm_o0) rfl ?_
      refine e_callV1 (As := [.int (ξ2.1 20)]) (rest := []) dX0_run_131 rfl mvX0_215 (xm_o0) rfl (x_gives (ξ2.1 20)) (Nat.le_of_ble_eq_true rfl) rfl rfl (Nat.le_of_ble_eq_true rfl) (Nat.zero_le _) (Nat.zero_le _) ?_
      refine e_ireturn dX0_run_134 rfl rfl (Nat.zero_le _) (Nat.zero_le _) ?_
      have eS : sp_run τ = ((runN 5002 0 (run0 τ)).1 62, runN 5002 0 (run0 τ)) := by
        rw [sp_run, if_neg (by rw [e41]; exact nI_pos (by omega))]
      rw [runN_0] at hI2 hB2 eP2
      have f1 := runN_fr 5002 0 (run0 τ)
      have hrP := runN_P 5002 0 (run0 τ) (n := n) (by omega) e41 (fun q hq => (hOk q hq).cg rfl rfl rfl rfl rfl) ⟨0, by omega, rfl⟩
      have nm : ∀ j, (j < 61 ∨ 66 < j) → ¬ mT j := fun j hj z => by have := z.1; have := z.2; omega
      have i1 : ∀ j, (1 < j ∧ j < 60 ∨ 66 < j) → (runN 5002 0 (run0 τ)).1 j = τ.1 j := fun j hj => by
        refine (f1.2.1 j (nm j (by omega))).trans ?_
        show upd (upd (upd (upd (upd (upd (upd (upd (upd τ.1 1 0) 0 0) 60 1) 61 0) 62 0) 63 0) 64 0) 65 (-1)) 66 0 j = _
        rw [pk_un (by omega), pk_un (by omega), pk_un (by omega), pk_un (by omega), pk_un (by omega), pk_un (by omega), pk_un (by omega), pk_un (by omega), pk_un (by omega)]
      have i60 : (runN 5002 0 (run0 τ)).1 60 = 1 := (f1.2.1 60 (nm 60 (by omega))).trans rfl
      have iA : (runN 5002 0 (run0 τ)).2.2.1 = τ.2.2.1 := f1.1.trans rfl
      have iB : ∀ j, ¬ (j = 58 ∨ j = 59) → (runN 5002 0 (run0 τ)).2.2.2 j = τ.2.2.2 j := fun j hj => (f1.2.2 j hj).trans (va_up_ne _ _ (fun e => hj (Or.inl e)))
      have aA : ∀ (L : List Nat), ∀ k ∈ L, (runN 5002 0 (run0 τ)).2.2.1 k = τ.2.2.1 k := fun _ k _ => by rw [iA]
      have aI : ∀ (L : List Nat), (∀ k ∈ L, 1 < k ∧ k < 60 ∨ 66 < k) → ∀ k ∈ L, (runN 5002 0 (run0 τ)).1 k = τ.1 k := fun L hL k hk => i1 k (hL k hk)
      refine ⟨_, _, own, rfl, by rw [eS]; exact congrArg (fun z => some (Value.int z)) eP2, ?_⟩
      rw [eS]
      show Rel own (xI ξ2 8 0) dyn (runN 5002 0 (run0 τ))
      have hI3 : RIm (xI ξ2 8 0) (runN 5002 0 (run0 τ)) := by
        intro q hq
        by_cases e : q.1 = 8
        · have hd : ∀ q ∈ rlM, q.1 = 8 → q = (8, 0) := by decide
          obtain rfl := hd q hq e
          show (0 : Int32) = _
          exact ((f1.2.1 0 (nm 0 (by omega))).trans rfl).symm
        · have hd : ∀ q ∈ rlM, ¬ q.1 = 8 → ¬ q.2 = 0 := by decide
          refine (pk_un e).trans ((hI2 q hq).trans ?_)
          show upd (runN 5002 0 (run0 τ)).1 0 _ q.2 = _
          rw [pk_un (hd q hq e)]
      have k41 := i1 41 (by omega)
      have hξ : Sy (fun k => mI k || k == 8) lA mB (xI ξ2 8 0) ξ := by
        refine Sy.I (i := fun k => mI k || k == 8) ((hS2.mono (fun k h => by show (mI k || k == 8) = true; rw [h]; rfl) (fun _ h => h) (fun _ h => h)).trans ?_) _ (by rfl)
        exact ((((((((Sy.rf (i := fun k => mI k || k == 8) (a := lA) (b := mB) (ξ := ξ)).B _ rfl).I _ rfl).I _ rfl).I _ rfl).I _ rfl).I _ rfl).I _ rfl).I _ rfl
      have hW2 : RW0 (xI ξ2 8 0) τ := by unfold RW0; rw [hξ.1 13 rfl, hξ.2.1 12 rfl]; exact hW.1
      have hP2 : RP (xI ξ2 8 0) τ := by unfold RP; rw [hξ.2.1 41 rfl]; exact hP
      have hR2 : RR (xI ξ2 8 0) τ := by unfold RR; rw [hξ.2.1 33 rfl, hξ.2.1 34 rfl]; exact hR
      have hT2 : RT own (xI ξ2 8 0) dyn τ := by unfold RT; rw [hξ.2.2.2]; exact hT
      have hE2 : RE own (xI ξ2 8 0) dyn τ := by unfold RE; rw [hξ.2.2.2]; exact hE
      have hC2 : RC own (xI ξ2 8 0) dyn τ := by unfold RC; rw [hξ.2.2.2]; exact hC
      have hA2 : RA (xI ξ2 8 0) (runN 5002 0 (run0 τ)) := by
        intro q hq
        have hd : ∀ q ∈ rlA, lA q.1 = false := by decide
        rw [iA]
        exact (hξ.2.1 q.1 (hd q hq)).trans (hA q hq)
      obtain ⟨P9, hP9, eP9⟩ := hrP
      obtain ⟨pm, pq, hpm, epm, hpq, epq, hrun⟩ := id hVR
      exact ⟨fun q hq => hI3 q (sbM q hq), hA2, hB2, ⟨hW2.cg (aI _ (by decide)), Or.inr (hI3 (23, 65) (by decide))⟩, hP2.cg (aI _ (by decide)) (aA _), hR2.cg (i1 74 (by omega)) (aA _), hT2.cg (aA _) (iB 4 (by omega)), hE2.cg (i1 5 (by omega)) (aA _), hC2.cg k41 (aA _) (iB 56 (by omega)), hVT.cg (aA _), hVJ.cg (i1 82 (by omega)) (aA _), ⟨P9, pq, hP9, eP9, hpq, (i1 74 (by omega)).trans epq, Or.inr i60⟩, hVF.cg (i1 29 (by omega)), hVN.cg (by rw [iA]) (by rw [iA]) (by rw [iA]), fun z => absurd (i60.symm.trans z) (by decide)⟩
    rcases hp with rfl | rfl
    · exact x_run_loop6 hm (τ0 := τ) hn40 (by exact hp4) (by exact hcd2) hOk hwb0 5002 0 0 0 _ (tI (run0 τ) 0 (τ.1 0)) (by omega) (by omega) (by omega) Sy.rf hI0 hB0 e41 rfl rfl (by omega) rfl rfl rfl hsb fin
    · exact x_run_loop7 hm (τ0 := τ) hn40 (by exact hp4) (by exact hcd2) hOk hwb0 5002 0 0 0 _ (tI (run0 τ) 0 (τ.1 0)) (by omega) (by omega) (by omega) Sy.rf hI0 hB0 e41 rfl rfl (by omega) rfl rfl rfl hsb fin
  · refine e_aload_n dX0_run_8 0 rfl rfl rfl ?_
    refine e_bipush 8 dX0_run_9 rfl ?_
    refine e_callV1 (As := [.int 8]) (rest := []) dX0_run_11 rfl mvX0_169 (xm_o0) rfl (x_none 8) (Nat.le_of_ble_eq_true rfl) rfl rfl (Nat.le_of_ble_eq_true rfl) (Nat.zero_le _) (Nat.zero_le _) ?_
    refine e_ireturn dX0_run_14 rfl rfl (Nat.zero_le _) (Nat.zero_le _) ?_
    have h41 : τ.1 41 < 0 := by rw [h5]; decide
    have eS : sp_run τ = (-1, bE τ 8) := by rw [sp_run, if_pos h41]
    refine ⟨_, _, own, rfl, ?_, ?_⟩
    · rw [eS]
    · rw [eS]; exact hRel.stE 8

