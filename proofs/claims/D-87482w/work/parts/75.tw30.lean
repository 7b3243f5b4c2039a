/-! ===== the twin: the mill runs ===== -/
theorem t_alarms {pre post : List ACell} {τ : Tw} (hp : pre.length = 56) {n k P : Nat} (hk : k < 40) (hC : CdOk τ n k) (hP : P ≤ 40 ∧ τ.1 62 = nI P) : Ct yX4_alarms (ws_ yX4_alarms cX4_alarms 6 (some .int)) 2 0 0 [.ref 56, .int (nI k)] (TW pre τ post) (Q1 (some (.int (spAlm τ k))) (TW pre τ post)) noX := by
  obtain ⟨K, a, b, c, e, h7, eK, ⟨ea, ha, ha1, ha2, ha3⟩, hb, hc, he⟩ := hC
  rcases (show K = 0 ∨ K = 1 ∨ K = 2 ∨ K = 3 ∨ K = 4 ∨ K = 5 ∨ K = 6 ∨ K = 7 by omega) with rfl | rfl | rfl | rfl | rfl | rfl | rfl | rfl
  · exact t_alm0 hp hk eK ⟨ea, ha1 (by decide)⟩ hb hP
  · exact t_alm1 hp hk eK ⟨ea, ha1 (by decide)⟩ hb hP
  · exact t_alm2 hp hk eK ⟨ea, ha1 (by decide)⟩ hb hP
  · exact t_alm3 hp hk eK ⟨ea, ha1 (by decide)⟩ hb hP
  · exact t_alm4 hp hk eK ⟨ea, ha1 (by decide)⟩ hb hP
  · exact t_alm5 hp hk eK ⟨ea, ha1 (by decide)⟩ hb hP
  · exact t_alm6 hp hk eK
  · exact t_alm7 hp hk eK
theorem t_does {pre post : List ACell} {τ : Tw} (hp : pre.length = 56) {n k P : Nat} (hk : k < 40) (hC : CdOk τ n k) (hP : P ≤ 40 ∧ τ.1 62 = nI P) (hPP : τ.2.2.1 43 k = 5 → P < 40) (hD : τ.2.2.1 43 k = 4 → ¬ spY τ k = 0) : Ct yX4_does (ws_ yX4_does cX4_does 7 (some .int)) 2 0 0 [.ref 56, .int (nI k)] (TW pre τ post) (fun v0 N => ∃ τ1, N = TW pre τ1 post ∧ v0 = some (.int (nI (spDoes τ k).1)) ∧ S3 τ1 (spDoes τ k).2) noX := by
  obtain ⟨K, a, b, c, e, h7, eK, ⟨ea, ha, ha1, ha2, ha3⟩, hb, hc, he⟩ := hC
  rcases (show K = 0 ∨ K = 1 ∨ K = 2 ∨ K = 3 ∨ K = 4 ∨ K = 5 ∨ K = 6 ∨ K = 7 by omega) with rfl | rfl | rfl | rfl | rfl | rfl | rfl | rfl
  · exact t_does0 hp hk eK ⟨ea, ha1 (by decide)⟩ hb hc he hP hPP hD
  · exact t_does1 hp hk eK ⟨ea, ha1 (by decide)⟩ hb hc he hP hPP hD
  · exact t_does2 hp hk eK ⟨ea, ha1 (by decide)⟩ hb hc he hP hPP hD
  · exact t_does3 hp hk eK ⟨ea, ha1 (by decide)⟩ hb hc he hP hPP hD
  · exact t_does4 hp hk eK ⟨ea, ha1 (by decide)⟩ hb hc he hP hPP hD
  · exact t_does5 hp hk eK ⟨ea, ha1 (by decide)⟩ hb hc he hP hPP hD
  · exact t_does6 hp hk eK ⟨ea, ha⟩ (fun _ => ha2 rfl)
  · exact t_does7 hp hk eK ⟨ea, ha⟩ (fun z => by rw [eK] at z; exact absurd z (by decide))
theorem spAlm_nn {ς : Tw} {k : Nat} (h : ¬ 0 < spAlm ς k) : spAlm ς k = 0 := by
  unfold spAlm at h ⊢
  by_cases h1 : ς.2.2.1 43 k = 1
  · rw [if_pos h1] at h ⊢
    split at h
    · exact absurd (by decide) h
    · rename_i h2; exact if_neg h2
  rw [if_neg h1] at h ⊢
  by_cases h2 : ς.2.2.1 43 k = 2
  · rw [if_pos h2] at h ⊢
    split at h
    · exact absurd (by decide) h
    · rename_i h3; exact if_neg h3
  rw [if_neg h2] at h ⊢
  by_cases h3 : ς.2.2.1 43 k = 3
  · rw [if_pos h3] at h ⊢
    split at h
    · exact absurd (by decide) h
    · rename_i h4; exact if_neg h4
  rw [if_neg h3] at h ⊢
  by_cases h4 : ς.2.2.1 43 k = 4
  · rw [if_pos h4] at h ⊢
    split at h
    · exact absurd (by decide) h
    · rename_i h5; exact if_neg h5
  rw [if_neg h4] at h ⊢
  by_cases h5 : ς.2.2.1 43 k = 5
  · rw [if_pos h5] at h ⊢
    split at h
    · exact absurd (by decide) h
    · rename_i h6; exact if_neg h6
  rw [if_neg h5]
theorem spAlm_D {ς : Tw} {k : Nat} (h : spAlm ς k = 0) (h4 : ς.2.2.1 43 k = 4) : ¬ spY ς k = 0 := by
  intro hy
  unfold spAlm at h
  rw [h4, if_neg (by decide), if_neg (by decide), if_neg (by decide), if_pos rfl, if_pos hy] at h
  exact absurd h (by decide)
theorem spAlm_P {ς : Tw} {k P : Nat} (h : spAlm ς k = 0) (hP : P ≤ 40 ∧ ς.1 62 = nI P) (h5 : ς.2.2.1 43 k = 5) : P < 40 := by
  unfold spAlm at h
  rw [h5, if_neg (by decide), if_neg (by decide), if_neg (by decide), if_neg (by decide), if_pos rfl, hP.2] at h
  rcases Nat.lt_or_ge P 40 with h6 | h6
  · exact h6
  · have e : P = 40 := by omega
    rw [e] at h
    exact absurd h (by decide)
theorem CdOk.cg {τ ς : Tw} {n k : Nat} (h43 : τ.2.2.1 43 = ς.2.2.1 43) (h44 : τ.2.2.1 44 = ς.2.2.1 44) (h45 : τ.2.2.1 45 = ς.2.2.1 45) (h46 : τ.2.2.1 46 = ς.2.2.1 46) (h47 : τ.2.2.1 47 = ς.2.2.1 47) (h : CdOk ς n k) : CdOk τ n k := by
  unfold CdOk at h ⊢
  rw [h43, h44, h45, h46, h47]
  exact h
theorem CdOk.s3 {τ ς : Tw} {n k : Nat} (h : S3 τ ς) (hC : CdOk ς n k) : CdOk τ n k :=
  hC.cg (h.2.2.1 43 (by decide)) (h.2.2.1 44 (by decide)) (h.2.2.1 45 (by decide)) (h.2.2.1 46 (by decide)) (h.2.2.1 47 (by decide))
set_option maxHeartbeats 4000000 in
set_option maxRecDepth 100000 in
/-- a loop of run -/
theorem t_run_loop {pre post : List ACell} (hp : pre.length = 56) {n : Nat} (hn : n ≤ 40) {Q : Qfun} : ∀ (fuel : Nat) (k : Nat) (D : Nat) (P : Nat) (τ : Tw) (ς : Tw), k ≤ n → D ≤ 5000 → 5001 < D + fuel → S3 τ ς → ς.1 41 = nI n → ς.1 66 = nI D → P ≤ 40 → ς.1 62 = nI P → (∀ q, q < n → CdOk ς n q) → (∀ τ2, S3 τ2 (runN fuel k ς) → Q (some (.int ((runN fuel k ς).1 62))) (TW pre τ2 post)) →
    E cX4_run (RX4, (some .int), 2, 3, (0, 0), false, []) Q noX 0 0 82 [some (.ref 56), some (.int (nI k))] [] (TW pre τ post) := by
  intro fuel
  induction fuel with
  | zero => intro k D P τ ς hkn hD hf hS e41 eD0 hP40 eP0 hC hQ; exact absurd hf (by omega)
  | succ fuel ih =>
    intro k D P τ ς hkn hD hf hS e41 eD0 hP40 eP0 hC hQ
    have eP : τ.1 62 = nI P := by rw [hS.1 62 (by simp)]; exact eP0
    have e41t : τ.1 41 = nI n := by rw [hS.1 41 (by simp)]; exact e41
    have eDt : τ.1 66 = nI D := by rw [hS.1 66 (by simp)]; exact eD0
    refine e_aload_n dX4_run_82 0 rfl rfl rfl ?_
    refine e_getf (v := .int (τ.1 64)) dX4_run_83 rfl fX4_482 (tw_o hp) rfl ?_
    refine e_if_ne 154 dX4_run_86 (by decide) (fun h86 => ?_) (fun h86 => ?_)
    · refine e_aload_n dX4_run_154 0 rfl rfl rfl ?_
      refine e_getf (v := .int (τ.1 62)) dX4_run_155 rfl fX4_461 (tw_o hp) rfl ?_
      refine e_ireturn dX4_run_158 rfl rfl (Nat.zero_le _) (Nat.zero_le _) ?_
      have eR : runN (fuel + 1) k ς = ς := by rw [runN, if_pos (fun z => h86 (by rw [hS.1 64 (by simp)]; exact z.1))]
      rw [eR] at hQ
      rw [hS.1 62 (by simp)]
      exact hQ τ hS
    · refine e_iload_n dX4_run_89 1 rfl rfl ?_
      refine e_aload_n dX4_run_90 0 rfl rfl rfl ?_
      refine e_getf (v := .int (τ.1 41)) dX4_run_91 rfl fX4_80 (tw_o hp) rfl ?_
      refine e_top (congrArg Value.int e41t) ?_
      refine e_icmp_geN k n 154 (by omega) (by omega) dX4_run_94 (by decide) (fun h94 => ?_) (fun h94 => ?_)
      · refine e_aload_n dX4_run_154 0 rfl rfl rfl ?_
        refine e_getf (v := .int (τ.1 62)) dX4_run_155 rfl fX4_461 (tw_o hp) rfl ?_
        refine e_ireturn dX4_run_158 rfl rfl (Nat.zero_le _) (Nat.zero_le _) ?_
        have eR : runN (fuel + 1) k ς = ς := by rw [runN, if_pos (fun z => absurd z.2 (by rw [e41]; exact fun y => absurd ((nI_ltN (by omega) (by omega)).mp y) (by omega)))]
        rw [eR] at hQ
        rw [hS.1 62 (by simp)]
        exact hQ τ hS
      · have gA : ς.1 64 = 0 ∧ nI k < ς.1 41 := ⟨by rw [← hS.1 64 (by simp)]; exact h86, by rw [e41]; exact (nI_ltN (by omega) (by omega)).mpr (by omega)⟩
        refine e_aload_n dX4_run_97 0 rfl rfl rfl ?_
        refine e_aload_n dX4_run_98 0 rfl rfl rfl ?_
        refine e_getf (v := .int (τ.1 66)) dX4_run_99 rfl fX4_485 (tw_o hp) rfl ?_
        refine e_top (congrArg Value.int eDt) ?_
        refine e_sipush 5000 dX4_run_102 rfl ?_
        refine e_icmp_neN D 5000 112 (by omega) (by omega) dX4_run_105 (by decide) (fun h105 => ?_) (fun h105 => ?_)
        · have g66 : ¬ ς.1 66 = 5000 := fun z => h105 ((nI_eqN (b := 5000) (by omega) (by omega)).mp (by rw [← eD0]; exact z))
          refine e_aload_n dX4_run_112 0 rfl rfl rfl ?_
          refine e_iload_n dX4_run_113 1 rfl rfl ?_
          refine e_callV1 (As := [.int (nI k)]) (rest := [.ref 56]) dX4_run_114 rfl mvX4_488 (tw_o hp) rfl (t_alarms hp (by omega) ((hC k (by omega)).s3 hS) (by exact ⟨hP40, eP⟩)) (Nat.le_of_ble_eq_true rfl) rfl rfl (Nat.le_of_ble_eq_true rfl) (Nat.zero_le _) (Nat.zero_le _) ?_
          refine e_tputI dX4_run_117 rfl pX4_482 rfl hp (Nat.le_of_ble_eq_true rfl) (tw_f64 _) ?_
          refine e_aload_n dX4_run_120 0 rfl rfl rfl ?_
          refine e_getf (v := .int (spAlm τ k)) dX4_run_121 rfl fX4_482 (tw_o hp) rfl ?_
          refine e_if_le 135 dX4_run_124 (by decide) (fun h124 => ?_) (fun h124 => ?_)
          · have gal : ¬ 0 < spAlm ς k := by rw [← hS.alm k]; exact Int32.not_lt.mpr h124
            have hz : spAlm τ k = 0 := (hS.alm k).trans (spAlm_nn gal)
            rw [hz]
            refine e_aload_n dX4_run_135 0 rfl rfl rfl ?_
            refine e_dup dX4_run_136 rfl ?_
            refine e_getf (v := .int (τ.1 66)) dX4_run_137 rfl fX4_485 (tw_o hp) rfl ?_
            refine e_top (congrArg Value.int eDt) ?_
            refine e_iconst 1 dX4_run_140 rfl ?_
            refine e_iaddN D 1 dX4_run_141 ?_
            refine e_tputI dX4_run_142 rfl pX4_485 rfl hp (Nat.le_of_ble_eq_true rfl) (tw_f66 _) ?_
            refine e_aload_n dX4_run_145 0 rfl rfl rfl ?_
            refine e_iload_n dX4_run_146 1 rfl rfl ?_
            refine e_callVQ (As := [.int (nI k)]) (rest := []) dX4_run_147 rfl mvX4_491 (tw_o hp) rfl (t_does (τ := tI (tI τ 64 0) 66 (nI (D + 1))) (n := n) hp (by omega) (CdOk.cg (ς := τ) rfl rfl rfl rfl rfl ((hC k (by omega)).s3 hS)) ⟨hP40, by exact eP⟩ (fun z => spAlm_P (ς := τ) hz ⟨hP40, eP⟩ z) (fun z => spAlm_D (ς := τ) hz z)) (Nat.le_of_ble_eq_true rfl) rfl rfl (Nat.le_of_ble_eq_true rfl) (Nat.zero_le _) (Nat.zero_le _) (fun v0 M0 h0 _ => ?_)
            obtain ⟨τ1, rfl, rfl, hS1⟩ := h0
            have hSs : S3 (tI (tI τ 64 0) 66 (nI (D + 1))) (tI (tI ς 64 0) 66 (nI (D + 1))) := (Sx.II (Sx.II hS 64 _) 66 _)
            have hcg := hSs.does k
            have hS2 : S3 τ1 (spDoes (tI (tI ς 64 0) 66 (nI (D + 1))) k).2 := hS1.trans hcg.2
            rw [hcg.1]
            refine e_istore_n dX4_run_150 1 rfl (ls_1 rfl) (Nat.le_of_ble_eq_true rfl) ?_
            refine e_goto 82 dX4_run_151 (by decide) ?_
            have hfr := spDoes_fr (tI (tI ς 64 0) 66 (nI (D + 1))) k
            have eR : runN (fuel + 1) k ς = runN fuel (spDoes (tI (tI ς 64 0) 66 (nI (D + 1))) k).1 (spDoes (tI (tI ς 64 0) 66 (nI (D + 1))) k).2 := by
              rw [runN, if_neg (fun z => z gA), if_neg g66, if_neg gal, eD0, show nI D + 1 = nI (D + 1) from nI_add _ 1]
            rw [eR] at hQ
            obtain ⟨P2, hP2, eP2⟩ : ∃ P2, P2 ≤ 40 ∧ (spDoes (tI (tI ς 64 0) 66 (nI (D + 1))) k).2.1 62 = nI P2 := by
              rcases hfr.2.2.2.2.2 with h | ⟨h, h2⟩
              · exact ⟨P, hP40, h.trans eP0⟩
              · have hlt := spAlm_P (ς := τ) hz ⟨hP40, eP⟩ ((congrFun (hS.2.2.1 43 (by decide)) k).trans h)
                exact ⟨P + 1, by omega, h2.trans (by show ς.1 62 + 1 = _; rw [eP0]; exact nI_add _ 1)⟩
            refine ih (spDoes (tI (tI ς 64 0) 66 (nI (D + 1))) k).1 (D + 1) P2 τ1 (spDoes (tI (tI ς 64 0) 66 (nI (D + 1))) k).2 (spDoes_k (by omega) (CdOk.cg rfl rfl rfl rfl rfl (hC k (by omega)))) (by omega) (by omega) hS2 (hfr.2.1.trans e41) (hfr.2.2.2.1.trans rfl) hP2 eP2 (fun q hq => CdOk.cg (by rw [hfr.1]; rfl) (by rw [hfr.1]; rfl) (by rw [hfr.1]; rfl) (by rw [hfr.1]; rfl) (by rw [hfr.1]; rfl) (hC q hq)) hQ
          · refine e_aload_n dX4_run_127 0 rfl rfl rfl ?_
            refine e_iload_n dX4_run_128 1 rfl rfl ?_
            refine e_tputI dX4_run_129 rfl pX4_134 rfl hp (Nat.le_of_ble_eq_true rfl) (tw_f65 _) ?_
            refine e_goto 82 dX4_run_132 (by decide) ?_
            refine e_aload_n dX4_run_82 0 rfl rfl rfl ?_
            refine e_getf (v := .int (spAlm τ k)) dX4_run_83 rfl fX4_482 (tw_o hp) rfl ?_
            refine e_if_ne 154 dX4_run_86 (by decide) (fun h86 => ?_) (fun h86 => ?_)
            · refine e_aload_n dX4_run_154 0 rfl rfl rfl ?_
              refine e_getf (v := .int (τ.1 62)) dX4_run_155 rfl fX4_461 (tw_o hp) rfl ?_
              refine e_ireturn dX4_run_158 rfl rfl (Nat.zero_le _) (Nat.zero_le _) ?_
              have eR : runN (fuel + 1) k ς = tI (tI ς 64 (spAlm ς k)) 65 (nI k) := by rw [runN, if_neg (fun z => z gA), if_neg g66, if_pos (by rw [← hS.alm k]; exact Int32.not_le.mp h124)]
              rw [eR] at hQ
              rw [hS.1 62 (by simp), hS.alm k]
              exact hQ _ (Sx.II (Sx.II hS 64 _) 65 _)
            · exact absurd (Int32.not_le.mp h124) (by rw [h86]; decide)
        · have g66 : ς.1 66 = 5000 := by rw [eD0]; exact congrArg nI h105
          refine e_iconst 4 dX4_run_108 rfl ?_
          refine e_goto 117 dX4_run_109 (by decide) ?_
          refine e_tputI dX4_run_117 rfl pX4_482 rfl hp (Nat.le_of_ble_eq_true rfl) (tw_f64 _) ?_
          refine e_aload_n dX4_run_120 0 rfl rfl rfl ?_
          refine e_getf (v := .int 4) dX4_run_121 rfl fX4_482 (tw_o hp) rfl ?_
          refine e_if_le_f (by decide) 135 dX4_run_124 (by decide) ?_
          refine e_aload_n dX4_run_127 0 rfl rfl rfl ?_
          refine e_iload_n dX4_run_128 1 rfl rfl ?_
          refine e_tputI dX4_run_129 rfl pX4_134 rfl hp (Nat.le_of_ble_eq_true rfl) (tw_f65 _) ?_
          refine e_goto 82 dX4_run_132 (by decide) ?_
          refine e_aload_n dX4_run_82 0 rfl rfl rfl ?_
          refine e_getf (v := .int 4) dX4_run_83 rfl fX4_482 (tw_o hp) rfl ?_
          refine e_if_ne_t 154 (by decide) dX4_run_86 (by decide) ?_
          refine e_aload_n dX4_run_154 0 rfl rfl rfl ?_
          refine e_getf (v := .int (τ.1 62)) dX4_run_155 rfl fX4_461 (tw_o hp) rfl ?_
          refine e_ireturn dX4_run_158 rfl rfl (Nat.zero_le _) (Nat.zero_le _) ?_
          have eR : runN (fuel + 1) k ς = tI (tI ς 64 4) 65 (nI k) := by rw [runN, if_neg (fun z => z gA), if_pos g66]
          rw [eR] at hQ
          rw [hS.1 62 (by simp)]
          exact hQ _ (Sx.II (Sx.II hS 64 _) 65 _)

