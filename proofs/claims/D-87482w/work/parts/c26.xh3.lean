/-! ===== the component: an engine set (2) ===== -/
set_option maxHeartbeats 4000000 in
set_option maxRecDepth 100000 in
/-- a loop of set -/
theorem x_set1 {ξ : Xs} {mid dyn : List ACell} {τ : Tw} (hm : mid.length = 61) {j b q y s n r : Nat} {g : Nat → Int64} (hqn : q ≤ n) (hn60 : n ≤ 60) (hs : s < 4) (hy : y < 4) (hTr : ξ.2.2.2.2.2.2 y = (some (117 + r), nI s)) (hD : dyn[r]? = some (rowC s n g)) (hg : ∀ k, k < n → g k = τ.2.2.2 4 (60 * y + k) ∧ fitS s (g k)) {Q : Qfun} : ∀ (fuel : Nat) (k : Nat), k ≤ q → q < k + fuel → allB (fun k => decide (-1000000000 ≤ τ.2.2.2 4 (60 * y + k) ∧ τ.2.2.2 4 (60 * y + k) ≤ 1000000000)) k = true → (¬ spBil y q τ = true → Q (some (.int 0)) (XM (xI ξ 8 5) mid dyn)) → (spBil y q τ = true → E cX0_set (RX0, (some .boolean), 7, 3, (0, 0), false, []) Q noX 0 0 131 [some (.ref 0), some (.int (nI j)), some (.int (nI y)), some (.int (nI q)), some (.ref (52 + y)), some (.ref (117 + b)), none] [] (XM ξ mid dyn)) →
    E cX0_set (RX0, (some .boolean), 7, 3, (0, 0), false, []) Q noX 0 0 95 [some (.ref 0), some (.int (nI j)), some (.int (nI y)), some (.int (nI q)), some (.ref (52 + y)), some (.ref (117 + b)), some (.int (nI k))] [] (XM ξ mid dyn) := by
  intro fuel
  induction fuel with
  | zero => intro k hk hf hb hR hE; exact absurd hf (by omega)
  | succ fuel ih =>
    intro k hk hf hb hR hE
    refine e_iload dX0_set_95 rfl ?_
    refine e_iload_n dX0_set_97 3 rfl rfl ?_
    refine e_icmp_geN k q 131 (by omega) (by omega) dX0_set_98 (by decide) (fun h98 => ?_) (fun h98 => ?_)
    · refine e_forget (i := 6) (ln_s (ln_s (ln_s (ln_s (ln_s (ln_s ln_0)))))) ?_
      obtain rfl : k = q := by omega
      exact hE hb
    · refine e_aload dX0_set_101 rfl rfl ?_
      refine e_iload dX0_set_103 rfl ?_
      refine e_callV1 (As := [.int (nI k)]) (rest := []) dX0_set_105 rfl mvX0_173 (xm_oT hy) rfl (z_get hm hy hs hn60 hTr hD (by omega) (hg k (by omega)).2) (Nat.le_of_ble_eq_true rfl) rfl rfl (Nat.le_of_ble_eq_true rfl) (Nat.zero_le _) (Nat.zero_le _) ?_
      refine e_top (congrArg Value.long (hg k (by omega)).1) ?_
      refine e_l2d dX0_set_108 ?_
      refine e_absD (τ.2.2.2 4 (60 * y + k)) dX0_set_109 rfl q669 (by decide) ?_
      refine e_ldc2d rfl q679 dX0_set_112 ?_
      refine e_dcmp dX0_set_115 ?_
      refine e_if_le 125 dX0_set_116 (by decide) (fun h116 => ?_) (fun h116 => ?_)
      · refine e_incN k (k + 1) (inc1 _) dX0_set_125 rfl (ls_s (ls_s (ls_s (ls_s (ls_s (ls_1 rfl)))))) (Nat.le_of_ble_eq_true rfl) ?_
        refine e_goto 95 dX0_set_128 (by decide) ?_
        exact ih (k + 1) (by omega) (by omega) (by rw [allB, hb, Bool.true_and]; exact decide_eq_true ((dbA_le _).mp h116)) hR hE
      · refine e_aload_n dX0_set_119 0 rfl rfl rfl ?_
        refine e_iconst 5 dX0_set_120 rfl ?_
        refine e_callV1 (As := [.int 5]) (rest := []) dX0_set_121 rfl mvX0_152 (xm_o0) rfl (x_isN (w := 5) (by decide)) (Nat.le_of_ble_eq_true rfl) rfl rfl (Nat.le_of_ble_eq_true rfl) (Nat.zero_le _) (Nat.zero_le _) ?_
        refine e_ireturn dX0_set_124 rfl rfl (Nat.zero_le _) (Nat.zero_le _) ?_
        refine hR (fun z => ?_)
        exact h116 ((dbA_le _).mpr (of_decide_eq_true ((allB_iff.mp z) k (by omega))))

set_option maxHeartbeats 4000000 in
set_option maxRecDepth 100000 in
/-- a loop of set -/
theorem x_set2 {ξ : Xs} {mid dyn : List ACell} {τ : Tw} (hm : mid.length = 61) {j b q y s n r : Nat} {g : Nat → Int64} (hqn : q ≤ n) (hn60 : n ≤ 60) (hs : s < 4) (hy : y < 4) (hTr : ξ.2.2.2.2.2.2 y = (some (117 + r), nI s)) (hD : dyn[r]? = some (rowC s n g)) (hg : ∀ k, k < n → g k = τ.2.2.2 4 (60 * y + k) ∧ fitS s (g k)) (hq7 : q ≤ 7) {Q : Qfun} : ∀ (fuel : Nat) (k : Nat), k ≤ q → q < k + fuel → E cX0_set (RX0, (some .boolean), 7, 3, (0, 0), false, []) Q noX 0 0 160 [some (.ref 0), some (.int (nI j)), some (.int (nI y)), some (.int (nI q)), some (.ref (52 + y)), some (.ref (117 + b)), none] [] (XM (xB ξ 11 (rngL (ξ.2.2.2.1 11) 0 q (fun k => τ.2.2.2 4 (60 * y + k)))) mid dyn) →
    E cX0_set (RX0, (some .boolean), 7, 3, (0, 0), false, []) Q noX 0 0 134 [some (.ref 0), some (.int (nI j)), some (.int (nI y)), some (.int (nI q)), some (.ref (52 + y)), some (.ref (117 + b)), some (.int (nI k))] [] (XM (xB ξ 11 (rngL (ξ.2.2.2.1 11) 0 k (fun k => τ.2.2.2 4 (60 * y + k)))) mid dyn) := by
  intro fuel
  induction fuel with
  | zero => intro k hk hf hE; exact absurd hf (by omega)
  | succ fuel ih =>
    intro k hk hf hE
    refine e_iload dX0_set_134 rfl ?_
    refine e_iload_n dX0_set_136 3 rfl rfl ?_
    refine e_icmp_geN k q 160 (by omega) (by omega) dX0_set_137 (by decide) (fun h137 => ?_) (fun h137 => ?_)
    · refine e_forget (i := 6) (ln_s (ln_s (ln_s (ln_s (ln_s (ln_s ln_0)))))) ?_
      obtain rfl : k = q := by omega
      exact hE
    · refine e_aload_n dX0_set_140 0 rfl rfl rfl ?_
      refine e_getf (v := (.ref 8)) dX0_set_141 rfl fX0_56 (xm_o0) rfl ?_
      refine e_iload dX0_set_144 rfl ?_
      refine e_aload dX0_set_146 rfl rfl ?_
      refine e_iload dX0_set_148 rfl ?_
      refine e_callV1 (As := [.int (nI k)]) (rest := [.int (nI k), .ref 8]) dX0_set_150 rfl mvX0_173 (xm_oT hy) rfl (z_get (ξ := xB ξ 11 (rngL (ξ.2.2.2.1 11) 0 k (fun k => τ.2.2.2 4 (60 * y + k)))) hm hy hs hn60 hTr hD (by omega) (hg k (by omega)).2) (Nat.le_of_ble_eq_true rfl) rfl rfl (Nat.le_of_ble_eq_true rfl) (Nat.zero_le _) (Nat.zero_le _) ?_
      refine e_top (congrArg Value.long (hg k (by omega)).1) ?_
      refine e_last (f := (rngL (ξ.2.2.2.1 11) 0 k (fun k => τ.2.2.2 4 (60 * y + k)))) (j := k) dX0_set_153 (xm_a11) rfl (by omega) (by decide) ?_
      rw [xm_s11]
      refine e_incN k (k + 1) (inc1 _) dX0_set_154 rfl (ls_s (ls_s (ls_s (ls_s (ls_s (ls_1 rfl)))))) (Nat.le_of_ble_eq_true rfl) ?_
      refine e_goto 134 dX0_set_157 (by decide) ?_
      rw [xB_xB]
      refine E_mem (M' := XM (xB ξ 11 (rngL (ξ.2.2.2.1 11) 0 (k + 1) (fun k => τ.2.2.2 4 (60 * y + k)))) mid dyn) ?_ ?_
      · rw [← rngL_s, Nat.zero_add]
      exact ih (k + 1) (by omega) (by omega) hE

set_option maxHeartbeats 4000000 in
set_option maxRecDepth 100000 in
/-- a loop of set -/
theorem x_set3 {ξ : Xs} {mid dyn : List ACell} {τ : Tw} (hm : mid.length = 61) {j b q y : Nat} {η : En} (hO : EngOk τ j) (hn : EnR η τ j) (hH : HlD dyn b (enB (117 + b) η)) (hq1 : 1 ≤ q) (hq7 : q ≤ 7) (hbd : ∀ i, i < q → bdL 1000000000 (τ.2.2.2 4 (60 * y + i))) {Q : Qfun} : ∀ (fuel : Nat) (k : Nat) (η' : En), k < gA τ j → 0 < fuel → Sme η' η → (∀ a, a < k → ∀ i, i < gW τ j → η'.2.2.2.2.2.2.2 a i = dgF (gR τ j) (axV q (fun k => τ.2.2.2 4 (60 * y + k)) a) i) → (∀ η' : En, Sme η' η → (∀ a, a < (k + 1) → ∀ i, i < gW τ j → η'.2.2.2.2.2.2.2 a i = dgF (gR τ j) (axV q (fun k => τ.2.2.2 4 (60 * y + k)) a) i) → E cX0_set (RX0, (some .boolean), 7, 3, (0, 0), false, []) Q noX 0 0 168 [some (.ref 0), some (.int (nI j)), some (.int (nI y)), some (.int (nI q)), some (.ref (52 + y)), some (.ref (117 + b)), some (.int (nI (k + 1)))] [] (XM (xB ξ 11 (stT q (dfL q (rngL (ξ.2.2.2.1 11) 0 q (fun k => τ.2.2.2 4 (60 * y + k))) (q - 1)) (k / 2))) mid (rpB dyn b (enB (117 + b) η')))) →
    E cX0_set (RX0, (some .boolean), 7, 3, (0, 0), false, []) Q noX 0 0 195 [some (.ref 0), some (.int (nI j)), some (.int (nI y)), some (.int (nI q)), some (.ref (52 + y)), some (.ref (117 + b)), some (.int (nI k))] [] (XM (xB ξ 11 (stT q (dfL q (rngL (ξ.2.2.2.1 11) 0 q (fun k => τ.2.2.2 4 (60 * y + k))) (q - 1)) (k / 2))) mid (rpB dyn b (enB (117 + b) η'))) := by
  intro fuel
  induction fuel with
  | zero => intro k η' hk hf hS hF hE; exact absurd hf (by omega)
  | succ fuel ih =>
    intro k η' hk hf hS hF hE
    have hle : b + (enB (117 + b) η').length ≤ dyn.length := by
      have := hH.le (enB_pos _ _)
      rw [enB_len] at this ⊢
      rw [hS.1]; exact this
    have hH' := rpB_Hl hle
    have hJ' : EnJ η' (gA τ j) (gW τ j) (gM τ j) (gR τ j) := hS.J (hn.J hO)
    have hr : Rds (gW τ j) (gR τ j) := fun i hi => ⟨(hO.2.2.2.2.1 i hi).1, (hO.2.2.2.2.1 i hi).2.1⟩
    have hA' := hJ'.1
    have hA7 := hJ'.2.2.1
    have hval0 : k < q → (stT q (dfL q (rngL (ξ.2.2.2.1 11) 0 q (fun k => τ.2.2.2 4 (60 * y + k))) (q - 1)) (k / 2)) k = axV q (fun k => τ.2.2.2 4 (60 * y + k)) k := fun h => by
      rw [axV, if_pos h, ← bkN_cg (v := (rngL (ξ.2.2.2.1 11) 0 q (fun k => τ.2.2.2 4 (60 * y + k)))) (fun i hi => by unfold rngL; rw [if_pos (by omega), Nat.sub_zero]) k h, bkN_st h hq7]
    refine e_aload dX0_set_195 rfl rfl ?_
    refine e_iload dX0_set_197 rfl ?_
    refine e_iload dX0_set_199 rfl ?_
    refine e_iload_n dX0_set_201 3 rfl rfl ?_
    refine e_icmp_geN k q 215 (by omega) (by omega) dX0_set_202 (by decide) (fun h202 => ?_) (fun h202 => ?_)
    · refine e_lconst 0 dX0_set_215 rfl ?_
      refine e_top (w := .long (axV q (fun k => τ.2.2.2 4 (60 * y + k)) k)) (congrArg Value.long (if_neg (by omega) : axV q (fun k => τ.2.2.2 4 (60 * y + k)) k = 0).symm) ?_
      refine e_callVQ (As := [.int (nI k), .long (axV q (fun k => τ.2.2.2 4 (60 * y + k)) k)]) (rest := []) dX0_set_216 rfl mvX0_252 (xh_o hm hH') rfl (x_eshowsX hm hH' hJ' (by omega) hr (axV_hb hr hq7 hbd k)) (Nat.le_of_ble_eq_true rfl) rfl rfl (Nat.le_of_ble_eq_true rfl) (Nat.zero_le _) (Nat.zero_le _) (fun v0 M0 h0_ _ => ?_)
      obtain ⟨rfl, η1, rfl, hS1, hF1, hN1⟩ := h0_
      rw [rpB_rpB hle (by rw [enB_len, enB_len, hS1.1])]
      refine e_incN k (k + 1) (inc1 _) dX0_set_219 rfl (ls_s (ls_s (ls_s (ls_s (ls_s (ls_1 rfl)))))) (Nat.le_of_ble_eq_true rfl) ?_
      refine e_goto 168 dX0_set_222 (by decide) ?_
      refine hE η1 (hS1.trans hS) (fun a ha i hi => ?_)
      by_cases e : a = k
      · subst e; exact hF1 i hi
      · rw [hN1 a e]; exact hF a (by omega) i hi
    · have hval := hval0 (by omega)
      refine e_aload_n dX0_set_205 0 rfl rfl rfl ?_
      refine e_getf (v := (.ref 8)) dX0_set_206 rfl fX0_56 (xm_o0) rfl ?_
      refine e_iload dX0_set_209 rfl ?_
      refine e_lald (f := (stT q (dfL q (rngL (ξ.2.2.2.1 11) 0 q (fun k => τ.2.2.2 4 (60 * y + k))) (q - 1)) (k / 2))) (j := k) dX0_set_211 (xm_a11) rfl (by omega) (by decide) ?_
      refine e_top (congrArg Value.long hval) ?_
      refine e_goto 216 dX0_set_212 (by decide) ?_
      refine e_callVQ (As := [.int (nI k), .long (axV q (fun k => τ.2.2.2 4 (60 * y + k)) k)]) (rest := []) dX0_set_216 rfl mvX0_252 (xh_o hm hH') rfl (x_eshowsX hm hH' hJ' (by omega) hr (axV_hb hr hq7 hbd k)) (Nat.le_of_ble_eq_true rfl) rfl rfl (Nat.le_of_ble_eq_true rfl) (Nat.zero_le _) (Nat.zero_le _) (fun v0 M0 h0_ _ => ?_)
      obtain ⟨rfl, η1, rfl, hS1, hF1, hN1⟩ := h0_
      rw [rpB_rpB hle (by rw [enB_len, enB_len, hS1.1])]
      refine e_incN k (k + 1) (inc1 _) dX0_set_219 rfl (ls_s (ls_s (ls_s (ls_s (ls_s (ls_1 rfl)))))) (Nat.le_of_ble_eq_true rfl) ?_
      refine e_goto 168 dX0_set_222 (by decide) ?_
      refine hE η1 (hS1.trans hS) (fun a ha i hi => ?_)
      by_cases e : a = k
      · subst e; exact hF1 i hi
      · rw [hN1 a e]; exact hF a (by omega) i hi

set_option maxHeartbeats 4000000 in
set_option maxRecDepth 100000 in
/-- a loop of set -/
theorem x_set4 {ξ : Xs} {mid dyn : List ACell} {τ : Tw} (hm : mid.length = 61) {j b q y : Nat} {η : En} (hO : EngOk τ j) (hn : EnR η τ j) (hH : HlD dyn b (enB (117 + b) η)) (hq1 : 1 ≤ q) (hq7 : q ≤ 7) (hbd : ∀ i, i < q → bdL 1000000000 (τ.2.2.2 4 (60 * y + i))) {Q : Qfun} : ∀ (fuel : Nat) (k : Nat) (η' : En), k ≤ gA τ j → gA τ j < k + fuel → Sme η' η → (∀ a, a < k → ∀ i, i < gW τ j → η'.2.2.2.2.2.2.2 a i = dgF (gR τ j) (axV q (fun k => τ.2.2.2 4 (60 * y + k)) a) i) → (∀ (η' : En) (f : Nat → Int64), Sme η' η → (∀ a, a < (gA τ j) → ∀ i, i < gW τ j → η'.2.2.2.2.2.2.2 a i = dgF (gR τ j) (axV q (fun k => τ.2.2.2 4 (60 * y + k)) a) i) → E cX0_set (RX0, (some .boolean), 7, 3, (0, 0), false, []) Q noX 0 0 225 [some (.ref 0), some (.int (nI j)), some (.int (nI y)), some (.int (nI q)), some (.ref (52 + y)), some (.ref (117 + b)), none] [] (XM (xB ξ 11 f) mid (rpB dyn b (enB (117 + b) η')))) →
    E cX0_set (RX0, (some .boolean), 7, 3, (0, 0), false, []) Q noX 0 0 168 [some (.ref 0), some (.int (nI j)), some (.int (nI y)), some (.int (nI q)), some (.ref (52 + y)), some (.ref (117 + b)), some (.int (nI k))] [] (XM (xB ξ 11 (stT q (dfL q (rngL (ξ.2.2.2.1 11) 0 q (fun k => τ.2.2.2 4 (60 * y + k))) (q - 1)) ((k - 1) / 2))) mid (rpB dyn b (enB (117 + b) η'))) := by
  intro fuel
  induction fuel with
  | zero => intro k η' hk hf hS hF hE; exact absurd hf (by omega)
  | succ fuel ih =>
    intro k η' hk hf hS hF hE
    have hle : b + (enB (117 + b) η').length ≤ dyn.length := by
      have := hH.le (enB_pos _ _)
      rw [enB_len] at this ⊢
      rw [hS.1]; exact this
    have hH' := rpB_Hl hle
    have hJ' : EnJ η' (gA τ j) (gW τ j) (gM τ j) (gR τ j) := hS.J (hn.J hO)
    have hr : Rds (gW τ j) (gR τ j) := fun i hi => ⟨(hO.2.2.2.2.1 i hi).1, (hO.2.2.2.2.1 i hi).2.1⟩
    have hA' := hJ'.1
    have hA7 := hJ'.2.2.1
    refine e_iload dX0_set_168 rfl ?_
    refine e_aload dX0_set_170 rfl rfl ?_
    refine e_getf (v := (.int (nI η'.1))) dX0_set_172 rfl fX0_199 (xh_o hm hH') rfl ?_
    refine e_top (congrArg (fun z => Value.int (nI z)) hA') ?_
    refine e_icmp_geN k (gA τ j) 225 (by omega) (by omega) dX0_set_175 (by decide) (fun h175 => ?_) (fun h175 => ?_)
    · refine e_forget (i := 6) (ln_s (ln_s (ln_s (ln_s (ln_s (ln_s ln_0)))))) ?_
      obtain rfl : k = gA τ j := by omega
      exact hE η' _ hS hF
    · refine e_iload dX0_set_178 rfl ?_
      refine e_if_leN k 195 (by omega) dX0_set_180 (by decide) (fun h180 => ?_) (fun h180 => ?_)
      · have hk2 : k < gA τ j := by omega
        refine E_mem (M' := XM (xB ξ 11 (stT q (dfL q (rngL (ξ.2.2.2.1 11) 0 q (fun k => τ.2.2.2 4 (60 * y + k))) (q - 1)) (k / 2))) mid (rpB dyn b (enB (117 + b) η'))) (by rw [show (k - 1) / 2 = k / 2 by omega]) ?_
        exact x_set3 hm hO hn hH hq1 hq7 hbd 1 k η' hk2 (by omega) hS hF (fun η1 hS1 hF1 => E_mem (by rw [show (k + 1 - 1) / 2 = k / 2 by omega]) (ih (k + 1) η1 (by omega) (by omega) hS1 hF1 hE))
      · refine e_iload dX0_set_183 rfl ?_
        refine e_iconst 2 dX0_set_185 rfl ?_
        refine e_iremN k 2 (by omega) (by omega) (by omega) dX0_set_186 ?_
        refine e_if_neN (k % 2) 195 (by omega) dX0_set_187 (by decide) (fun h187 => ?_) (fun h187 => ?_)
        · have hk2 : k < gA τ j := by omega
          refine E_mem (M' := XM (xB ξ 11 (stT q (dfL q (rngL (ξ.2.2.2.1 11) 0 q (fun k => τ.2.2.2 4 (60 * y + k))) (q - 1)) (k / 2))) mid (rpB dyn b (enB (117 + b) η'))) (by rw [show (k - 1) / 2 = k / 2 by omega]) ?_
          exact x_set3 hm hO hn hH hq1 hq7 hbd 1 k η' hk2 (by omega) hS hF (fun η1 hS1 hF1 => E_mem (by rw [show (k + 1 - 1) / 2 = k / 2 by omega]) (ih (k + 1) η1 (by omega) (by omega) hS1 hF1 hE))
        · refine e_aload_n dX0_set_190 0 rfl rfl rfl ?_
          refine e_iload_n dX0_set_191 3 rfl rfl ?_
          refine e_callV0 (As := [.int (nI q)]) (rest := []) dX0_set_192 rfl mvX0_249 (xm_o0) rfl (x_steps hq7 hq1) (Nat.le_of_ble_eq_true rfl) rfl rfl (Nat.le_of_ble_eq_true rfl) (Nat.zero_le _) (Nat.zero_le _) ?_
          have hk2 : k < gA τ j := by omega
          refine E_mem (M' := XM (xB ξ 11 (stT q (dfL q (rngL (ξ.2.2.2.1 11) 0 q (fun k => τ.2.2.2 4 (60 * y + k))) (q - 1)) (k / 2))) mid (rpB dyn b (enB (117 + b) η'))) ?_ ?_
          · rw [show k / 2 = (k - 1) / 2 + 1 by omega]
            rfl
          exact x_set3 hm hO hn hH hq1 hq7 hbd 1 k η' hk2 (by omega) hS hF (fun η1 hS1 hF1 => E_mem (by rw [show (k + 1 - 1) / 2 = k / 2 by omega]) (ih (k + 1) η1 (by omega) (by omega) hS1 hF1 hE))

