/-! ===== the component: an engine like another ===== -/
theorem HlD.rp {dyn : List ACell} {b b1 : Nat} {cs cs1 : List ACell} (h1 : HlD dyn b1 cs1) (hl : b + cs.length ≤ dyn.length) (hd : b1 + cs1.length ≤ b ∨ b + cs.length ≤ b1) : HlD (rpB dyn b cs) b1 cs1 := fun k c hc => by
  have := (List.getElem?_eq_some_iff.mp hc).1
  rw [rpB_out hl (by omega)]
  exact h1 k c hc
set_option maxHeartbeats 4000000 in
set_option maxRecDepth 100000 in
/-- a loop of like -/
theorem x_like_loop {ξ : Xs} {mid dyn : List ACell} (hm : mid.length = 61) {b b1 A W : Nat} {η η1 : En} (hA0 : η.1 = A) (hW0 : η.2.1 = W) (hA1 : η1.1 = A) (hW1 : η1.2.1 = W) (hA7 : A ≤ 7) (hW12 : W ≤ 12) (hH : HlD dyn b (enB (117 + b) η)) (hH10 : HlD dyn b1 (enB (117 + b1) η1)) (hdis : b1 + (8 + 2 * A) ≤ b ∨ b + (8 + 2 * A) ≤ b1) {Q : Qfun} : ∀ (fuel : Nat) (k : Nat) (η' : En), k ≤ A → A < k + fuel → Sme η' η → (∀ a, a < k → ∀ i, i < W → η'.2.2.2.2.2.2.2 a i = η1.2.2.2.2.2.2.2 a i) → (∀ η' : En, Sme η' (nM (nT η 0) 0) → (∀ a, a < A → ∀ i, i < W → η'.2.2.2.2.2.2.2 a i = η1.2.2.2.2.2.2.2 a i) → Q none (XM ξ mid (rpB dyn b (enB (117 + b) η')))) →
    E cX5_like (RX5, none, 3, 0, (0, 0), false, []) Q noX 0 0 2 [some (.ref (117 + b)), some (.ref (117 + b1)), some (.int (nI k))] [] (XM ξ mid (rpB dyn b (enB (117 + b) η'))) := by
  intro fuel
  induction fuel with
  | zero => intro k η' hk hf hS hF hQ; exact absurd hf (by omega)
  | succ fuel ih =>
    intro k η' hk hf hS hF hQ
    have hA : η'.1 = A := hS.1.trans hA0
    have hW : η'.2.1 = W := hS.2.1.trans hW0
    have hle : b + (enB (117 + b) η').length ≤ dyn.length := by
      have := hH.le (enB_pos _ _)
      rw [enB_len] at this ⊢
      rw [hS.1]; exact this
    have hH' := rpB_Hl hle
    have hH1 : HlD (rpB dyn b (enB (117 + b) η')) b1 (enB (117 + b1) η1) := hH10.rp hle (by rw [enB_len, enB_len, hA1, hA]; exact hdis)
    refine e_iload_n dX5_like_2 2 rfl rfl ?_
    refine e_aload_n dX5_like_3 0 rfl rfl rfl ?_
    refine e_getf (v := (.int (nI η'.1))) dX5_like_4 rfl fX5_28 (xh_o hm hH') rfl ?_
    refine e_top (congrArg (fun z => Value.int (nI z)) hA) ?_
    refine e_icmp_geN k A 43 (by omega) (by omega) dX5_like_7 (by decide) (fun h7 => ?_) (fun h7 => ?_)
    · refine e_aload_n dX5_like_43 0 rfl rfl rfl ?_
      refine e_iconst 0 dX5_like_44 rfl ?_
      refine e_xputI dX5_like_45 rfl pX5_56 rfl (xh_o hm hH') (Nat.le_of_ble_eq_true rfl) (xh_sT hm hH' _) ?_
      rw [rpB_rpB hle (by rw [enB_len, enB_len]; rfl)]
      have hH2 : HlD (rpB dyn b (enB (117 + b) (nT η' 0))) b (enB (117 + b) (nT η' 0)) := rpB_Hl (by rw [enB_len] at hle ⊢; exact hle)
      refine e_aload_n dX5_like_48 0 rfl rfl rfl ?_
      refine e_iconst 0 dX5_like_49 rfl ?_
      refine e_xputI dX5_like_50 rfl pX5_59 rfl (xh_o hm hH2) (Nat.le_of_ble_eq_true rfl) (xh_sM hm hH2 _) ?_
      refine e_return dX5_like_53 rfl (Nat.zero_le _) (Nat.zero_le _) ?_
      rw [rpB_rpB (by rw [enB_len] at hle ⊢; exact hle) (by rw [enB_len, enB_len]; rfl)]
      obtain rfl : k = A := by omega
      exact hQ (nM (nT η' 0) 0) ⟨hS.1, hS.2.1, rfl, rfl, hS.2.2.2.2.1, hS.2.2.2.2.2⟩ hF
    · refine e_aload_n dX5_like_10 1 rfl rfl rfl ?_
      refine e_getf (v := (.ref (117 + b1 + 7))) dX5_like_11 rfl fX5_46 (xh_o hm hH1) rfl ?_
      refine e_iload_n dX5_like_14 2 rfl rfl ?_
      refine e_aald (f := enA (117 + b1) A) (j := k) dX5_like_15 (xh_x hm hH1 hA1) (fun _ => rfl) rfl (by omega) (by omega) ?_
      refine e_top (congrArg rfO (enA_at (by omega))) ?_
      refine e_getf (v := (.ref (117 + b1 + 9 + 2 * k))) dX5_like_16 rfl fX5_53 (xh_a hm hH1 hA1 (by omega)) rfl ?_
      refine e_iconst 0 dX5_like_19 rfl ?_
      refine e_aload_n dX5_like_20 0 rfl rfl rfl ?_
      refine e_getf (v := (.ref (117 + b + 7))) dX5_like_21 rfl fX5_46 (xh_o hm hH') rfl ?_
      refine e_iload_n dX5_like_24 2 rfl rfl ?_
      refine e_aald (f := enA (117 + b) A) (j := k) dX5_like_25 (xh_x hm hH' hA) (fun _ => rfl) rfl (by omega) (by omega) ?_
      refine e_top (congrArg rfO (enA_at (by omega))) ?_
      refine e_getf (v := (.ref (117 + b + 9 + 2 * k))) dX5_like_26 rfl fX5_53 (xh_a hm hH' hA (by omega)) rfl ?_
      refine e_iconst 0 dX5_like_29 rfl ?_
      refine e_aload_n dX5_like_30 0 rfl rfl rfl ?_
      refine e_getf (v := (.int (nI η'.2.1))) dX5_like_31 rfl fX5_32 (xh_o hm hH') rfl ?_
      refine e_top (congrArg (fun z => Value.int (nI z)) hW) ?_
      refine e_acopyI (t := 0) (ty := .int) (sp := 0) (dp := 0) (n := W) (n1 := W) (n2 := W) (f := η1.2.2.2.2.2.2.2 k) (g := η'.2.2.2.2.2.2.2 k) dX5_like_34 rfl q582 (xh_f hm hH1 hA1 hW1 (by omega)) (xh_f hm hH' hA hW (by omega)) (fun _ => rfl) (fun _ _ => rfl) (by omega) (by omega) (by omega) (by omega) (by decide) ?_
      rw [xh_fs hm hH' hA hW (by omega)]
      refine e_incN k (k + 1) (inc1 _) dX5_like_37 rfl (ls_s (ls_1 rfl)) (Nat.le_of_ble_eq_true rfl) ?_
      refine e_goto 2 dX5_like_40 (by decide) ?_
      rw [rpB_rpB hle (by rw [enB_len, enB_len]; rfl)]
      refine ih (k + 1) _ (by omega) (by omega) (by exact hS) (fun a ha i hi => ?_) hQ
      by_cases e : a = k
      · subst e
        rw [nF_s]
        unfold cpV
        rw [if_pos (by omega), Nat.zero_add, Nat.sub_zero]
      · rw [nF_n e]; exact hF a (by omega) i hi

set_option maxHeartbeats 4000000 in
set_option maxRecDepth 100000 in
/-- WheelTables$Engine.like -/
theorem x_like {ξ : Xs} {mid dyn : List ACell} (hm : mid.length = 61) {b b1 A W : Nat} {η η1 : En} (hA0 : η.1 = A) (hW0 : η.2.1 = W) (hA1 : η1.1 = A) (hW1 : η1.2.1 = W) (hA7 : A ≤ 7) (hW12 : W ≤ 12) (hH : HlD dyn b (enB (117 + b) η)) (hH10 : HlD dyn b1 (enB (117 + b1) η1)) (hdis : b1 + (8 + 2 * A) ≤ b ∨ b + (8 + 2 * A) ≤ b1) : Ct yX5_like (ws_ yX5_like cX5_like 3 none) 0 0 0 [.ref (117 + b), .ref (117 + b1)] (XM ξ mid dyn) (fun v M' => v = none ∧ ∃ η', M' = XM ξ mid (rpB dyn b (enB (117 + b) η')) ∧ Sme η' (nM (nT η 0) 0) ∧ ∀ a, a < A → ∀ i, i < W → η'.2.2.2.2.2.2.2 a i = η1.2.2.2.2.2.2.2 a i) noX := by
  refine Ct.of (ini := false) (ls := [some (.ref (117 + b)), some (.ref (117 + b1)), none]) (by decide) (Nat.le_of_ble_eq_true rfl) (fun h => by cases h) rfl ?_
  refine e_iconst 0 dX5_like_0 rfl ?_
  refine e_istore_n dX5_like_1 2 rfl (ls_s (ls_1 rfl)) (Nat.le_of_ble_eq_true rfl) ?_
  refine E_mem (M' := XM ξ mid (rpB dyn b (enB (117 + b) η))) (by rw [← hH.spl (enB_pos _ _)]) ?_
  exact x_like_loop hm hA0 hW0 hA1 hW1 hA7 hW12 hH hH10 hdis (A + 1) 0 η (by omega) (by omega) (Sme.rf _) (fun a ha => absurd ha (by omega)) (fun η' hS hF => ⟨rfl, η', rfl, hS, hF⟩)

