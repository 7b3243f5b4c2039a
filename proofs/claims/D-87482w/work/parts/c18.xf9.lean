/-! ===== the component: engine ===== -/
set_option maxHeartbeats 4000000 in
set_option maxRecDepth 100000 in
/-- a loop of engine -/
theorem x_eng1 {ξ : Xs} {mid dyn : List ACell} {τ : Tw} (hm : mid.length = 61) {A W y s n r : Nat} {g : Nat → Int64} (hW12 : W ≤ 12) (hWn : W ≤ n) (hn60 : n ≤ 60) (hs : s < 4) (hy : y < 4) (hTr : ξ.2.2.2.2.2.2 y = (some (117 + r), nI s)) (hD : dyn[r]? = some (rowC s n g)) (hg : ∀ k, k < n → g k = τ.2.2.2 4 (60 * y + k) ∧ fitS s (g k)) {Q : Qfun} : ∀ (fuel : Nat) (k : Nat), k ≤ W → W < k + fuel → allB (fun k => decide (2 ≤ τ.2.2.2 4 (60 * y + k) ∧ τ.2.2.2 4 (60 * y + k) ≤ 12)) k = true → (¬ spWheels y W τ = true → Q (some (.int (-1))) (XM (xI ξ 8 5) mid dyn)) → (spWheels y W τ = true → E cX0_engine (RX0, (some .int), 7, 2, (23, 234), false, []) Q noX 0 0 127 [some (.ref 0), some (.int (nI A)), some (.int (nI W)), some (.int (nI y)), some (.ref (52 + y)), none, none] [] (XM ξ mid dyn)) →
    E cX0_engine (RX0, (some .int), 7, 2, (23, 234), false, []) Q noX 0 0 81 [some (.ref 0), some (.int (nI A)), some (.int (nI W)), some (.int (nI y)), some (.ref (52 + y)), some (.int (nI k)), none] [] (XM ξ mid dyn) := by
  intro fuel
  induction fuel with
  | zero => intro k hk hf hb hR hE; exact absurd hf (by omega)
  | succ fuel ih =>
    intro k hk hf hb hR hE
    have hDx := hD
    refine e_iload dX0_engine_81 rfl ?_
    refine e_iload_n dX0_engine_83 2 rfl rfl ?_
    refine e_icmp_geN k W 127 (by omega) (by omega) dX0_engine_84 (by decide) (fun h84 => ?_) (fun h84 => ?_)
    · refine e_forget (i := 5) (ln_s (ln_s (ln_s (ln_s (ln_s ln_0))))) ?_
      obtain rfl : k = W := by omega
      exact hE hb
    · refine e_aload dX0_engine_87 rfl rfl ?_
      refine e_iload dX0_engine_89 rfl ?_
      refine e_callV1 (As := [.int (nI k)]) (rest := []) dX0_engine_91 rfl mvX0_173 (xm_oT hy) rfl (z_get hm hy hs hn60 hTr hDx (by omega) (hg k (by omega)).2) (Nat.le_of_ble_eq_true rfl) rfl rfl (Nat.le_of_ble_eq_true rfl) (Nat.zero_le _) (Nat.zero_le _) ?_
      refine e_top (congrArg Value.long (hg k (by omega)).1) ?_
      refine e_ldc2 rfl q575 dX0_engine_94 ?_
      refine e_lcmp_lt 115 dX0_engine_97 dX0_engine_98 (by decide) (fun h97 => ?_) (fun h97 => ?_)
      · refine e_aload_n dX0_engine_115 0 rfl rfl rfl ?_
        refine e_iconst 5 dX0_engine_116 rfl ?_
        refine e_callV1 (As := [.int 5]) (rest := []) dX0_engine_117 rfl mvX0_169 (xm_o0) rfl (x_none 5) (Nat.le_of_ble_eq_true rfl) rfl rfl (Nat.le_of_ble_eq_true rfl) (Nat.zero_le _) (Nat.zero_le _) ?_
        refine e_ireturn dX0_engine_120 rfl rfl (Nat.zero_le _) (Nat.zero_le _) ?_
        refine hR (fun z => ?_)
        have hz := of_decide_eq_true ((allB_iff.mp z) k (by omega))
        exact absurd hz.1 (Int64.not_le.mpr h97)
      · refine e_aload dX0_engine_101 rfl rfl ?_
        refine e_iload dX0_engine_103 rfl ?_
        refine e_callV1 (As := [.int (nI k)]) (rest := []) dX0_engine_105 rfl mvX0_173 (xm_oT hy) rfl (z_get hm hy hs hn60 hTr hDx (by omega) (hg k (by omega)).2) (Nat.le_of_ble_eq_true rfl) rfl rfl (Nat.le_of_ble_eq_true rfl) (Nat.zero_le _) (Nat.zero_le _) ?_
        refine e_top (congrArg Value.long (hg k (by omega)).1) ?_
        refine e_ldc2 rfl q576 dX0_engine_108 ?_
        refine e_lcmp_le 121 dX0_engine_111 dX0_engine_112 (by decide) (fun h111 => ?_) (fun h111 => ?_)
        · refine e_incN k (k + 1) (inc1 _) dX0_engine_121 rfl (ls_s (ls_s (ls_s (ls_s (ls_1 rfl))))) (Nat.le_of_ble_eq_true rfl) ?_
          refine e_goto 81 dX0_engine_124 (by decide) ?_
          exact ih (k + 1) (by omega) (by omega) (by rw [allB, hb, Bool.true_and]; exact decide_eq_true ⟨Int64.not_lt.mp h97, h111⟩) hR hE
        · refine e_aload_n dX0_engine_115 0 rfl rfl rfl ?_
          refine e_iconst 5 dX0_engine_116 rfl ?_
          refine e_callV1 (As := [.int 5]) (rest := []) dX0_engine_117 rfl mvX0_169 (xm_o0) rfl (x_none 5) (Nat.le_of_ble_eq_true rfl) rfl rfl (Nat.le_of_ble_eq_true rfl) (Nat.zero_le _) (Nat.zero_le _) ?_
          refine e_ireturn dX0_engine_120 rfl rfl (Nat.zero_le _) (Nat.zero_le _) ?_
          refine hR (fun z => ?_)
          have hz := of_decide_eq_true ((allB_iff.mp z) k (by omega))
          exact h111 hz.2

set_option maxHeartbeats 4000000 in
set_option maxRecDepth 100000 in
/-- a loop of engine -/
theorem x_eng2 {ξ : Xs} {mid dyn : List ACell} {τ : Tw} (hm : mid.length = 61) {A W y s n r : Nat} {g : Nat → Int64} (hW12 : W ≤ 12) (hWn : W ≤ n) (hn60 : n ≤ 60) (hs : s < 4) (hy : y < 4) (hTr : ξ.2.2.2.2.2.2 y = (some (117 + r), nI s)) (hD : dyn[r]? = some (rowC s n g)) (hg : ∀ k, k < n → g k = τ.2.2.2 4 (60 * y + k) ∧ fitS s (g k)) {Q : Qfun} : ∀ (fuel : Nat) (k : Nat), k ≤ W → W < k + fuel → E cX0_engine (RX0, (some .int), 7, 2, (23, 234), false, []) Q noX 1 12 176 [some (.ref 0), some (.int (nI A)), some (.int (nI W)), some (.int (nI y)), some (.ref (52 + y)), some (.ref (117 + dyn.length)), none] [] (XM ξ mid (dyn ++ [(.inl (0, 12, .inl (rngI (fun _ => 0) 0 W (fun k => (τ.2.2.2 4 (60 * y + k)).toInt32))) : ACell)])) →
    E cX0_engine (RX0, (some .int), 7, 2, (23, 234), false, []) Q noX 1 12 151 [some (.ref 0), some (.int (nI A)), some (.int (nI W)), some (.int (nI y)), some (.ref (52 + y)), some (.ref (117 + dyn.length)), some (.int (nI k))] [] (XM ξ mid (dyn ++ [(.inl (0, 12, .inl (rngI (fun _ => 0) 0 k (fun k => (τ.2.2.2 4 (60 * y + k)).toInt32))) : ACell)])) := by
  intro fuel
  induction fuel with
  | zero => intro k hk hf hE; exact absurd hf (by omega)
  | succ fuel ih =>
    intro k hk hf hE
    have hDx : ∀ c : ACell, (dyn ++ [c])[r]? = some (rowC s n g) := fun c => by rw [List.getElem?_append_left (List.getElem?_eq_some_iff.mp hD).1]; exact hD
    refine e_iload dX0_engine_151 rfl ?_
    refine e_iload_n dX0_engine_153 2 rfl rfl ?_
    refine e_icmp_geN k W 176 (by omega) (by omega) dX0_engine_154 (by decide) (fun h154 => ?_) (fun h154 => ?_)
    · refine e_forget (i := 6) (ln_s (ln_s (ln_s (ln_s (ln_s (ln_s ln_0)))))) ?_
      obtain rfl : k = W := by omega
      exact hE
    · refine e_aload dX0_engine_157 rfl rfl ?_
      refine e_iload dX0_engine_159 rfl ?_
      refine e_aload dX0_engine_161 rfl rfl ?_
      refine e_iload dX0_engine_163 rfl ?_
      refine e_callV1 (As := [.int (nI k)]) (rest := [.int (nI k), .ref (117 + dyn.length)]) dX0_engine_165 rfl mvX0_173 (xm_oT hy) rfl (z_get hm hy hs hn60 hTr (hDx _) (by omega) (hg k (by omega)).2) (Nat.le_of_ble_eq_true rfl) rfl rfl (Nat.le_of_ble_eq_true rfl) (Nat.le_of_ble_eq_true rfl) (Nat.le_of_ble_eq_true rfl) ?_
      refine e_top (congrArg Value.long (hg k (by omega)).1) ?_
      refine e_l2i dX0_engine_168 ?_
      refine e_iast (f := rngI (fun _ => 0) 0 k (fun k => (τ.2.2.2 4 (60 * y + k)).toInt32)) (j := k) dX0_engine_169 ((xm_d hm _).trans (by rw [List.getElem?_append_right (Nat.le_refl _), Nat.sub_self]; rfl)) rfl (by omega) (by decide) ?_
      rw [xm_ds hm]
      refine e_incN k (k + 1) (inc1 _) dX0_engine_170 rfl (ls_s (ls_s (ls_s (ls_s (ls_s (ls_1 rfl)))))) (Nat.le_of_ble_eq_true rfl) ?_
      refine e_goto 151 dX0_engine_173 (by decide) ?_
      refine E_mem (M' := XM ξ mid (dyn ++ [(.inl (0, 12, .inl (rngI (fun _ => 0) 0 (k + 1) (fun k => (τ.2.2.2 4 (60 * y + k)).toInt32))) : ACell)])) ?_ ?_
      · rw [List.set_append_right _ _ (Nat.le_refl _), Nat.sub_self, ← rngI_s, Nat.zero_add]
        rfl
      exact ih (k + 1) (by omega) (by omega) hE

