/-! ===== the twin: explain (2) ===== -/
theorem dvm {N t q : Nat} (h : q < N) : (t * N + q) / N = t ∧ (t * N + q) % N = q := by
  rw [Nat.mul_comm t N]
  exact ⟨by rw [Nat.mul_add_div (by omega), Nat.div_eq_of_lt h, Nat.add_zero], by rw [Nat.mul_add_mod, Nat.mod_eq_of_lt h]⟩
theorem EngOk.cg {τ τ0 : Tw} {e : Nat} (h6 : τ.2.2.1 6 = τ0.2.2.1 6) (h7 : τ.2.2.1 7 = τ0.2.2.1 7) (h8 : τ.2.2.1 8 = τ0.2.2.1 8) (h9 : τ.2.2.1 9 = τ0.2.2.1 9) (h10 : τ.2.2.1 10 = τ0.2.2.1 10) (h12 : τ.2.2.1 12 = τ0.2.2.1 12) (h : EngOk τ0 e) : EngOk τ e := by
  unfold EngOk gA gW gU gM gR gF at h ⊢
  rw [h6, h7, h8, h9, h10, h12]
  exact h
theorem shN_cg {τ τ0 : Tw} {e y n : Nat} {cnt : Nat → Nat → Nat → Nat → Nat} (h2 : τ.2.2.1 2 = τ0.2.2.1 2) (h6 : τ.2.2.1 6 = τ0.2.2.1 6) (h7 : τ.2.2.1 7 = τ0.2.2.1 7) (h9 : τ.2.2.1 9 = τ0.2.2.1 9) (h10 : τ.2.2.1 10 = τ0.2.2.1 10) (h4 : τ.2.2.2 4 = τ0.2.2.2 4) : shN τ e y n cnt = shN τ0 e y n cnt := by
  have e1 : shP τ e y cnt = shP τ0 e y cnt := by
    funext k
    unfold shP gA gW gR gF
    rw [h2, h6, h7, h9, h10, h4]
  unfold shN; rw [e1]
theorem t_showsB {pre post : List ACell} {τ : Tw} (hp : pre.length = 56) {cnt : Nat → Nat → Nat → Nat → Nat} {e y n : Nat} (he : e < 4) (hy : y < 4) (hn : n ≤ 60) (hO : EngOk τ e) (hcn : ∀ t, t ≤ 1000 → mhN τ e (nI t) true = cnt t) {b : Bool} (hb : shN τ e y n cnt = b) : Ct yX4_shows (ws_ yX4_shows cX4_shows 6 (some .boolean)) 4 0 0 [.ref 56, .int (nI e), .int (nI y), .int (nI n)] (TW pre τ post) (fun v N => ∃ τ1, N = TW pre τ1 post ∧ v = some (.int (bI b)) ∧ Sx [] [] [11, 17] [] τ1 τ) noX := by
  subst hb; exact t_shows hp he hy hn hO hcn
set_option maxHeartbeats 4000000 in
set_option maxRecDepth 100000 in
/-- a loop of explain -/
theorem t_expl_in {pre post : List ACell} {τ0 : Tw} (hp : pre.length = 56) {A W e y n : Nat} (he : e < 4) (hy : y < 4) (hn : n ≤ 60) (hO : EngOk τ0 e) (eA0 : gA τ0 e = A) (eW0 : gW τ0 e = W) {t0 : Nat} (ht : t0 < n) {Q : Qfun} : ∀ (fuel : Nat) (q : Nat) (τ : Tw), q ≤ (3 * (A - 1) * W) → (3 * (A - 1) * W) < q + fuel → Sx [18, 19, 20, 21] [] [11, 17] [] τ τ0 → (∀ j, j < t0 * (3 * (A - 1) * W) + q → (fun m => shN τ0 e y n (cn1 W (m / (3 * (A - 1) * W) + 1) (m % (3 * (A - 1) * W)))) j = false) → (∀ τ : Tw, ∀ m, Sx [18, 19, 20, 21] [] [11, 17] [] τ τ0 → m < n * (3 * (A - 1) * W) → (fun m => shN τ0 e y n (cn1 W (m / (3 * (A - 1) * W) + 1) (m % (3 * (A - 1) * W)))) m = true → (∀ j, j < m → (fun m => shN τ0 e y n (cn1 W (m / (3 * (A - 1) * W) + 1) (m % (3 * (A - 1) * W)))) j = false) → Q (some (.int 1)) (TW pre (spCause τ W (m / (3 * (A - 1) * W) + 1) (m % (3 * (A - 1) * W))) post)) → (∀ τ : Tw, Sx [18, 19, 20, 21] [] [11, 17] [] τ τ0 → (∀ j, j < (t0 + 1) * (3 * (A - 1) * W) → (fun m => shN τ0 e y n (cn1 W (m / (3 * (A - 1) * W) + 1) (m % (3 * (A - 1) * W)))) j = false) → E cX4_explain (RX4, (some .int), 6, 5, (0, 0), false, []) Q noX 0 0 176 [some (.ref 56), some (.int (nI e)), some (.int (nI y)), some (.int (nI n)), some (.int (nI (t0 + 1))), none] [] (TW pre τ post)) →
    E cX4_explain (RX4, (some .int), 6, 5, (0, 0), false, []) Q noX 0 0 59 [some (.ref 56), some (.int (nI e)), some (.int (nI y)), some (.int (nI n)), some (.int (nI (t0 + 1))), some (.int (nI q))] [] (TW pre τ post) := by
  intro fuel
  induction fuel with
  | zero => intro q τ hq hf hS hz hQ hE; exact absurd hf (by omega)
  | succ fuel ih =>
    intro q τ hq hf hS hz hQ hE
    have hO1 : EngOk τ e := hO.cg (hS.2.2.1 6 (by decide)) (hS.2.2.1 7 (by decide)) (hS.2.2.1 8 (by decide)) (hS.2.2.1 9 (by decide)) (hS.2.2.1 10 (by decide)) (hS.2.2.1 12 (by decide))
    have hA : A ≤ 7 := by rw [← eA0]; exact hO.1.2.1
    have hA2 : 2 ≤ A := by rw [← eA0]; exact hO.1.1
    have hW : W ≤ 12 := by rw [← eW0]; exact hO.2.1.2.1
    have hW1 : 1 ≤ W := by rw [← eW0]; exact hO.2.1.1
    have eA : τ.2.2.1 6 e = nI A := by rw [hS.2.2.1 6 (by decide), ← eA0]; exact hO.1.2.2
    have eW : τ.2.2.1 7 e = nI W := by rw [hS.2.2.1 7 (by decide), ← eW0]; exact hO.2.1.2.2
    have hNb : 3 * (A - 1) * W ≤ 216 := Nat.mul_le_mul (show 3 * (A - 1) ≤ 18 by omega) hW
    refine e_iload dX4_explain_59 rfl ?_
    refine e_iconst 3 dX4_explain_61 rfl ?_
    refine e_aload_n dX4_explain_62 0 rfl rfl rfl ?_
    refine e_getf (v := .ref 60) dX4_explain_63 rfl fX4_20 (tw_o hp) rfl ?_
    refine e_iload_n dX4_explain_66 1 rfl rfl ?_
    refine e_iald (f := τ.2.2.1 6) (j := e) dX4_explain_67 (tw_a6 hp) rfl (by omega) (by decide) ?_
    refine e_top (congrArg Value.int eA) ?_
    refine e_iconst 1 dX4_explain_68 rfl ?_
    refine e_isubN A 1 (by omega) dX4_explain_69 ?_
    refine e_imulN 3 (A - 1) dX4_explain_70 ?_
    refine e_aload_n dX4_explain_71 0 rfl rfl rfl ?_
    refine e_getf (v := .ref 61) dX4_explain_72 rfl fX4_23 (tw_o hp) rfl ?_
    refine e_iload_n dX4_explain_75 1 rfl rfl ?_
    refine e_iald (f := τ.2.2.1 7) (j := e) dX4_explain_76 (tw_a7 hp) rfl (by omega) (by decide) ?_
    refine e_top (congrArg Value.int eW) ?_
    refine e_imulN (3 * (A - 1)) W dX4_explain_77 ?_
    refine e_icmp_geN q ((3 * (A - 1)) * W) 176 (by omega) (by omega) dX4_explain_78 (by decide) (fun h78 => ?_) (fun h78 => ?_)
    · refine e_forget (i := 5) (ln_s (ln_s (ln_s (ln_s (ln_s ln_0))))) ?_
      have e1 : q = (3 * (A - 1) * W) := by omega
      exact hE τ hS (fun j hj => hz j (by rw [Nat.succ_mul] at hj; omega))
    · refine e_aload_n dX4_explain_81 0 rfl rfl rfl ?_
      refine e_iload dX4_explain_82 rfl ?_
      refine e_tputI dX4_explain_84 rfl pX4_57 rfl hp (Nat.le_of_ble_eq_true rfl) (tw_f18 _) ?_
      refine e_aload_n dX4_explain_87 0 rfl rfl rfl ?_
      refine e_iload dX4_explain_88 rfl ?_
      refine e_iconst 3 dX4_explain_90 rfl ?_
      refine e_aload_n dX4_explain_91 0 rfl rfl rfl ?_
      refine e_getf (v := .ref 61) dX4_explain_92 rfl fX4_23 (tw_o hp) rfl ?_
      refine e_iload_n dX4_explain_95 1 rfl rfl ?_
      refine e_iald (f := τ.2.2.1 7) (j := e) dX4_explain_96 (tw_a7 hp) rfl (by omega) (by decide) ?_
      refine e_top (congrArg Value.int eW) ?_
      refine e_imulN 3 W dX4_explain_97 ?_
      refine e_idivN q (3 * W) (by omega) (by omega) (by omega) dX4_explain_98 ?_
      refine e_tputI dX4_explain_99 rfl pX4_290 rfl hp (Nat.le_of_ble_eq_true rfl) (tw_f19 _) ?_
      refine e_aload_n dX4_explain_102 0 rfl rfl rfl ?_
      refine e_iload dX4_explain_103 rfl ?_
      refine e_iconst 3 dX4_explain_105 rfl ?_
      refine e_idivN q 3 (by omega) (by omega) (by omega) dX4_explain_106 ?_
      refine e_aload_n dX4_explain_107 0 rfl rfl rfl ?_
      refine e_getf (v := .ref 61) dX4_explain_108 rfl fX4_23 (tw_o hp) rfl ?_
      refine e_iload_n dX4_explain_111 1 rfl rfl ?_
      refine e_iald (f := τ.2.2.1 7) (j := e) dX4_explain_112 (tw_a7 hp) rfl (by omega) (by decide) ?_
      refine e_top (congrArg Value.int eW) ?_
      refine e_iremN (q / 3) W (by omega) (by omega) (by omega) dX4_explain_113 ?_
      refine e_tputI dX4_explain_114 rfl pX4_293 rfl hp (Nat.le_of_ble_eq_true rfl) (tw_f20 _) ?_
      refine e_aload_n dX4_explain_117 0 rfl rfl rfl ?_
      refine e_iload dX4_explain_118 rfl ?_
      refine e_iconst 3 dX4_explain_120 rfl ?_
      refine e_iremN q 3 (by omega) (by omega) (by omega) dX4_explain_121 ?_
      refine e_tputI dX4_explain_122 rfl pX4_296 rfl hp (Nat.le_of_ble_eq_true rfl) (tw_f21 _) ?_
      refine e_aload_n dX4_explain_125 0 rfl rfl rfl ?_
      refine e_iload_n dX4_explain_126 1 rfl rfl ?_
      refine e_iload_n dX4_explain_127 2 rfl rfl ?_
      refine e_iload_n dX4_explain_128 3 rfl rfl ?_
      refine e_callVQ (As := [.int (nI e), .int (nI y), .int (nI n)]) (rest := []) dX4_explain_129 rfl mvX4_321 (tw_o hp) rfl (t_showsB (τ := tI (tI (tI (tI τ 18 (nI (t0 + 1))) 19 (nI (q / (3 * W)))) 20 (nI (q / 3 % W))) 21 (nI (q % 3))) hp (cnt := cn1 W (t0 + 1) q) he hy hn (hO1.cg rfl rfl rfl rfl rfl rfl) (fun t _ => rfl) (b := shN τ0 e y n (cn1 W (t0 + 1) q)) (shN_cg (by exact hS.2.2.1 2 (by decide)) (by exact hS.2.2.1 6 (by decide)) (by exact hS.2.2.1 7 (by decide)) (by exact hS.2.2.1 9 (by decide)) (by exact hS.2.2.1 10 (by decide)) (by exact hS.2.2.2 4 (by simp)))) (Nat.le_of_ble_eq_true rfl) rfl rfl (Nat.le_of_ble_eq_true rfl) (Nat.zero_le _) (Nat.zero_le _) (fun v0 M0 h0 _ => ?_)
      obtain ⟨τ1, rfl, rfl, hS1⟩ := h0
      have hS2 : Sx [18, 19, 20, 21] [] [11, 17] [] τ1 τ0 := (hS1.mono (by simp) (by simp) (by simp) (by simp)).trans ((((hS.I _ (by simp)).I _ (by simp)).I _ (by simp)).I _ (by simp))
      refine e_if_ne 138 dX4_explain_132 (by decide) (fun h132 => ?_) (fun h132 => ?_)
      · refine e_aload_n dX4_explain_138 0 rfl rfl rfl ?_
        refine e_iload dX4_explain_139 rfl ?_
        refine e_tputI dX4_explain_141 rfl pX4_61 rfl hp (Nat.le_of_ble_eq_true rfl) (tw_f22 _) ?_
        refine e_aload_n dX4_explain_144 0 rfl rfl rfl ?_
        refine e_aload_n dX4_explain_145 0 rfl rfl rfl ?_
        refine e_getf (v := .int (τ1.1 19)) dX4_explain_146 rfl fX4_290 (tw_o hp) rfl ?_
        refine e_top (congrArg Value.int (show τ1.1 19 = nI (q / (3 * W)) from hS1.1 19 (by simp))) ?_
        refine e_tputI dX4_explain_149 rfl pX4_324 rfl hp (Nat.le_of_ble_eq_true rfl) (tw_f23 _) ?_
        refine e_aload_n dX4_explain_152 0 rfl rfl rfl ?_
        refine e_aload_n dX4_explain_153 0 rfl rfl rfl ?_
        refine e_getf (v := .int (τ1.1 20)) dX4_explain_154 rfl fX4_293 (tw_o hp) rfl ?_
        refine e_top (congrArg Value.int (show τ1.1 20 = nI (q / 3 % W) from hS1.1 20 (by simp))) ?_
        refine e_tputI dX4_explain_157 rfl pX4_327 rfl hp (Nat.le_of_ble_eq_true rfl) (tw_f24 _) ?_
        refine e_aload_n dX4_explain_160 0 rfl rfl rfl ?_
        refine e_aload_n dX4_explain_161 0 rfl rfl rfl ?_
        refine e_getf (v := .int (τ1.1 21)) dX4_explain_162 rfl fX4_296 (tw_o hp) rfl ?_
        refine e_top (congrArg Value.int (show τ1.1 21 = nI (q % 3) from hS1.1 21 (by simp))) ?_
        refine e_tputI dX4_explain_165 rfl pX4_330 rfl hp (Nat.le_of_ble_eq_true rfl) (tw_f25 _) ?_
        refine e_iconst 1 dX4_explain_168 rfl ?_
        refine e_ireturn dX4_explain_169 rfl rfl (Nat.zero_le _) (Nat.zero_le _) ?_
        have hpt : shN τ0 e y n (cn1 W (t0 + 1) q) = true := by
          cases hh : shN τ0 e y n (cn1 W (t0 + 1) q) with
          | true => rfl
          | false => rw [hh] at h132; exact absurd rfl h132
        have hmn : t0 * (3 * (A - 1) * W) + q < n * (3 * (A - 1) * W) := by
          have := Nat.mul_le_mul_right (3 * (A - 1) * W) (show t0 + 1 ≤ n by omega)
          rw [Nat.succ_mul] at this
          omega
        have hdv := dvm (t := t0) (show q < (3 * (A - 1) * W) by omega)
        have hqq := hQ τ1 (t0 * (3 * (A - 1) * W) + q) hS2 hmn (by rw [← hpt]; show shN τ0 e y n (cn1 W ((t0 * (3 * (A - 1) * W) + q) / (3 * (A - 1) * W) + 1) ((t0 * (3 * (A - 1) * W) + q) % (3 * (A - 1) * W))) = _; rw [hdv.1, hdv.2]) hz
        rw [hdv.1, hdv.2] at hqq
        exact hqq
      · refine e_goto 170 dX4_explain_135 (by decide) ?_
        refine e_incN q (q + 1) (inc1 _) dX4_explain_170 rfl (ls_s (ls_s (ls_s (ls_s (ls_1 rfl))))) (Nat.le_of_ble_eq_true rfl) ?_
        refine e_goto 59 dX4_explain_173 (by decide) ?_
        have hpf : (fun m => shN τ0 e y n (cn1 W (m / (3 * (A - 1) * W) + 1) (m % (3 * (A - 1) * W)))) (t0 * (3 * (A - 1) * W) + q) = false := by
          show shN τ0 e y n (cn1 W ((t0 * (3 * (A - 1) * W) + q) / (3 * (A - 1) * W) + 1) ((t0 * (3 * (A - 1) * W) + q) % (3 * (A - 1) * W))) = false
          rw [(dvm (show q < (3 * (A - 1) * W) by omega)).1, (dvm (show q < (3 * (A - 1) * W) by omega)).2]
          cases hh : shN τ0 e y n (cn1 W (t0 + 1) q) with
          | false => rfl
          | true => rw [hh] at h132; exact absurd h132 (by decide)
        refine ih (q + 1) τ1 (by omega) (by omega) hS2 (fun j hj => ?_) hQ hE
        by_cases ej : j = t0 * (3 * (A - 1) * W) + q
        · rw [ej]; exact hpf
        · exact hz j (by omega)

set_option maxHeartbeats 4000000 in
set_option maxRecDepth 100000 in
/-- a loop of explain -/
theorem t_expl_out {pre post : List ACell} {τ0 : Tw} (hp : pre.length = 56) {A W e y n : Nat} (he : e < 4) (hy : y < 4) (hn : n ≤ 60) (hO : EngOk τ0 e) (eA0 : gA τ0 e = A) (eW0 : gW τ0 e = W) {Q : Qfun} : ∀ (fuel : Nat) (t0 : Nat) (τ : Tw), t0 ≤ n → n < t0 + fuel → Sx [18, 19, 20, 21] [] [11, 17] [] τ τ0 → (∀ j, j < t0 * (3 * (A - 1) * W) → (fun m => shN τ0 e y n (cn1 W (m / (3 * (A - 1) * W) + 1) (m % (3 * (A - 1) * W)))) j = false) → (∀ τ : Tw, ∀ m, Sx [18, 19, 20, 21] [] [11, 17] [] τ τ0 → m < n * (3 * (A - 1) * W) → (fun m => shN τ0 e y n (cn1 W (m / (3 * (A - 1) * W) + 1) (m % (3 * (A - 1) * W)))) m = true → (∀ j, j < m → (fun m => shN τ0 e y n (cn1 W (m / (3 * (A - 1) * W) + 1) (m % (3 * (A - 1) * W)))) j = false) → Q (some (.int 1)) (TW pre (spCause τ W (m / (3 * (A - 1) * W) + 1) (m % (3 * (A - 1) * W))) post)) → (∀ τ : Tw, Sx [18, 19, 20, 21] [] [11, 17] [] τ τ0 → (∀ j, j < n * (3 * (A - 1) * W) → (fun m => shN τ0 e y n (cn1 W (m / (3 * (A - 1) * W) + 1) (m % (3 * (A - 1) * W)))) j = false) → Q (some (.int (-1))) (TW pre (tI τ 0 8) post)) →
    E cX4_explain (RX4, (some .int), 6, 5, (0, 0), false, []) Q noX 0 0 50 [some (.ref 56), some (.int (nI e)), some (.int (nI y)), some (.int (nI n)), some (.int (nI (t0 + 1))), none] [] (TW pre τ post) := by
  intro fuel
  induction fuel with
  | zero => intro t0 τ ht hf hS hz hQ hN0; exact absurd hf (by omega)
  | succ fuel ih =>
    intro t0 τ ht hf hS hz hQ hN0
    have hO1 : EngOk τ e := hO.cg (hS.2.2.1 6 (by decide)) (hS.2.2.1 7 (by decide)) (hS.2.2.1 8 (by decide)) (hS.2.2.1 9 (by decide)) (hS.2.2.1 10 (by decide)) (hS.2.2.1 12 (by decide))
    have hA : A ≤ 7 := by rw [← eA0]; exact hO.1.2.1
    have hA2 : 2 ≤ A := by rw [← eA0]; exact hO.1.1
    have hW : W ≤ 12 := by rw [← eW0]; exact hO.2.1.2.1
    have hW1 : 1 ≤ W := by rw [← eW0]; exact hO.2.1.1
    have eA : τ.2.2.1 6 e = nI A := by rw [hS.2.2.1 6 (by decide), ← eA0]; exact hO.1.2.2
    have eW : τ.2.2.1 7 e = nI W := by rw [hS.2.2.1 7 (by decide), ← eW0]; exact hO.2.1.2.2
    have hNb : 3 * (A - 1) * W ≤ 216 := Nat.mul_le_mul (show 3 * (A - 1) ≤ 18 by omega) hW
    refine e_iload dX4_explain_50 rfl ?_
    refine e_iload_n dX4_explain_52 3 rfl rfl ?_
    refine e_icmp_gtN (t0 + 1) n 182 (by omega) (by omega) dX4_explain_53 (by decide) (fun h53 => ?_) (fun h53 => ?_)
    · refine e_aload_n dX4_explain_182 0 rfl rfl rfl ?_
      refine e_bipush 8 dX4_explain_183 rfl ?_
      refine e_callV1 (As := [.int 8]) (rest := []) dX4_explain_185 rfl mvX4_252 (tw_o hp) rfl (t_refuse hp 8) (Nat.le_of_ble_eq_true rfl) rfl rfl (Nat.le_of_ble_eq_true rfl) (Nat.zero_le _) (Nat.zero_le _) ?_
      refine e_ireturn dX4_explain_188 rfl rfl (Nat.zero_le _) (Nat.zero_le _) ?_
      have e1 : t0 = n := by omega
      subst e1
      exact hN0 τ hS hz
    · refine e_iconst 0 dX4_explain_56 rfl ?_
      refine e_istore dX4_explain_57 (ls_s (ls_s (ls_s (ls_s (ls_1 rfl))))) (Nat.le_of_ble_eq_true rfl) ?_
      refine t_expl_in (τ0 := τ0) hp he hy hn hO eA0 eW0 (t0 := t0) (by omega) ((3 * (A - 1) * W) + 1) 0 τ (by omega) (by omega) hS (by rw [Nat.add_zero]; exact hz) hQ (fun τ1 hS1 hz1 => ?_)
      refine e_incN (t0 + 1) (t0 + 1 + 1) (inc1 _) dX4_explain_176 rfl (ls_s (ls_s (ls_s (ls_1 rfl)))) (Nat.le_of_ble_eq_true rfl) ?_
      refine e_goto 50 dX4_explain_179 (by decide) ?_
      exact ih (t0 + 1) τ1 (by omega) (by omega) hS1 hz1 hQ hN0

theorem mhN_no {τ : Tw} {e t : Nat} (ht : t ≤ 1000) (h : τ.1 18 = -1) : mhN τ e (nI t) true = cn0 t := by
  funext x w k
  show (if τ.1 18 = nI t ∧ _ then 1 else 0) = 0
  rw [if_neg]
  intro z
  have z1 := z.1
  rw [h] at z1
  exact absurd (show (-1 : Int32) < 0 by decide) (by rw [z1]; exact nI_pos (by omega))
theorem Sx.b0q {τ' τ : Tw} (h : Sx [18, 19, 20, 21] [] [11, 17] [] τ' (b0 τ)) : Tq τ' (b0 τ) := h.q (by decide) (by decide) (by decide)
def spTp (j y m : Nat) (ς : Tw) (i : Nat) : Bool := shN (b0 ς) j y m (cn1 (gW ς j) (i / (3 * (gA ς j - 1) * gW ς j) + 1) (i % (3 * (gA ς j - 1) * gW ς j)))
theorem spTry_eq {τ : Tw} {j y m : Nat} : spTry j y m τ = fstN (spTp j y m τ) (m * (3 * (gA τ j - 1) * gW τ j)) 0 := rfl
theorem spTry_some {τ : Tw} {j y m q : Nat} (h1 : q < m * (3 * (gA τ j - 1) * gW τ j)) (h2 : spTp j y m τ q = true) (h3 : ∀ i, i < q → spTp j y m τ i = false) : spTry j y m τ = some q := by
  rw [spTry_eq]; exact fstN_some h2 (Nat.zero_le _) (by omega) (fun i _ hi => h3 i hi)
theorem spTry_none {τ : Tw} {j y m : Nat} (h3 : ∀ i, i < m * (3 * (gA τ j - 1) * gW τ j) → spTp j y m τ i = false) : spTry j y m τ = none := by
  rw [spTry_eq]; exact fstN_none (fun i _ hi => h3 i (by omega))
set_option maxHeartbeats 4000000 in
set_option maxRecDepth 100000 in
/-- WheelTablesModel.explain -/
theorem t_explain {pre post : List ACell} {τ : Tw} (hp : pre.length = 56) (hI : InvE τ) (hT : InvT τ) (e t r : Int32) : Ct yX4_explain (ws_ yX4_explain cX4_explain 6 (some .int)) 5 0 0 [.ref 56, .int e, .int t, .int r] (TW pre τ post) (TQi pre post (sp_explain e t r τ)) noX := by
  refine Ct.of (ini := false) (ls := [some (.ref 56), some (.int e), some (.int t), some (.int r), none, none]) (by decide) (Nat.le_of_ble_eq_true rfl) (fun h => by cases h) rfl ?_
  refine e_aload_n dX4_explain_0 0 rfl rfl rfl ?_
  refine e_iconst 0 dX4_explain_1 rfl ?_
  refine e_tputI dX4_explain_2 rfl pX4_212 rfl hp (Nat.le_of_ble_eq_true rfl) (tw_f1 _) ?_
  refine e_aload_n dX4_explain_5 0 rfl rfl rfl ?_
  refine e_aload_n dX4_explain_6 0 rfl rfl rfl ?_
  refine e_iload_n dX4_explain_7 1 rfl rfl ?_
  refine e_iload_n dX4_explain_8 2 rfl rfl ?_
  refine e_iload_n dX4_explain_9 3 rfl rfl ?_
  refine e_callV1 (As := [.int e, .int t, .int r]) (rest := [.ref 56]) dX4_explain_10 rfl mvX4_315 (tw_o hp) rfl (t_ask hp (by exact hI) e t r) (Nat.le_of_ble_eq_true rfl) rfl rfl (Nat.le_of_ble_eq_true rfl) (Nat.zero_le _) (Nat.zero_le _) ?_
  refine e_tputI dX4_explain_13 rfl pX4_215 rfl hp (Nat.le_of_ble_eq_true rfl) (tw_f0 _) ?_
  refine e_aload_n dX4_explain_16 0 rfl rfl rfl ?_
  refine e_getf (v := .int (spAsk e t r τ)) dX4_explain_17 rfl fX4_215 (tw_o hp) rfl ?_
  refine e_if_le 25 dX4_explain_20 (by decide) (fun h20 => ?_) (fun h20 => ?_)
  · have gA0 : ¬ 0 < spAsk e t r τ := Int32.not_lt.mpr h20
    obtain ⟨z0, hiE, y, n, m, hy, rfl, hn, en, hm1, hmn, rfl⟩ := spAsk_0 hI hT gA0
    obtain ⟨j, hj, hj4, rfl⟩ := eng_of hI hiE
    obtain ⟨hO, hM⟩ := hI.2.2.1 j hj
    have hN := hO.F hj4
    obtain ⟨-, hA, hA2, hW1, hW, eA, eW, hM20, eM, hrd, hr⟩ := id hN
    have hU := hO.2.2.1.1
    have eU := hO.2.2.1.2
    rw [show spAsk (nI j) (nI y) (nI m) (tI τ 1 0) = 0 from z0]
    refine e_aload_n dX4_explain_25 0 rfl rfl rfl ?_
    refine e_iconst (-1) dX4_explain_26 rfl ?_
    refine e_tputI dX4_explain_27 rfl pX4_57 rfl hp (Nat.le_of_ble_eq_true rfl) (tw_f18 _) ?_
    refine e_aload_n dX4_explain_30 0 rfl rfl rfl ?_
    refine e_iload_n dX4_explain_31 1 rfl rfl ?_
    refine e_iload_n dX4_explain_32 2 rfl rfl ?_
    refine e_iload_n dX4_explain_33 3 rfl rfl ?_
    refine e_callVQ (As := [.int (nI j), .int (nI y), .int (nI m)]) (rest := []) dX4_explain_34 rfl mvX4_321 (tw_o hp) rfl (t_showsB (τ := tI (tI (tI τ 1 0) 0 0) 18 (-1)) hp (cnt := cn0) hj4 hy (by omega) (hO.cg rfl rfl rfl rfl rfl rfl) (fun t ht => mhN_no ht (by rfl)) (b := shN τ j y m cn0) (shN_cg rfl rfl rfl rfl rfl rfl)) (Nat.le_of_ble_eq_true rfl) rfl rfl (Nat.le_of_ble_eq_true rfl) (Nat.zero_le _) (Nat.zero_le _) (fun v0 M0 h0 _ => ?_)
    obtain ⟨τ1, rfl, rfl, hS1⟩ := h0
    refine e_if_eq 47 dX4_explain_37 (by decide) (fun h37 => ?_) (fun h37 => ?_)
    · refine e_iconst 1 dX4_explain_47 rfl ?_
      refine e_istore dX4_explain_48 (ls_s (ls_s (ls_s (ls_1 rfl)))) (Nat.le_of_ble_eq_true rfl) ?_
      have hbz : shN τ j y m cn0 = false := by
        cases hh : shN τ j y m cn0 with
        | false => rfl
        | true => rw [hh] at h37; exact absurd h37 (by decide)
      have hS2 : Sx [18, 19, 20, 21] [] [11, 17] [] τ1 (b0 τ) := (hS1.mono (by simp) (by simp) (by simp) (by simp)).trans (Sx.rf.I _ (by simp))
      refine t_expl_out (τ0 := b0 τ) (A := gA τ j) (W := gW τ j) hp hj4 hy (show m ≤ 60 by omega) (hO.cg rfl rfl rfl rfl rfl rfl) rfl rfl (m + 1) 0 τ1 (by omega) (by omega) hS2 (fun j hj => absurd hj (by omega)) (fun τ2 q h1 h2 h3 h4 => ?_) (fun τ2 h1 h2 => ?_)
      · have eT : spTry j y m τ = some q := spTry_some h2 h3 h4
        have eS : sp_explain (nI j) (nI y) (nI m) τ = (1, spCause (b0 τ) (gW τ j) (q / mhM τ j + 1) (q % mhM τ j)) := by
          rw [sp_explain, if_neg gA0, ix_nI (show j < 2147483648 by omega), ix_nI (show y < 2147483648 by omega), ix_nI (show m < 2147483648 by omega), if_neg (by rw [hbz]; decide), eT]
        exact TQi.q eS ((((h1.b0q.I 22 _).I 23 _).I 24 _).I 25 _)
      · have eT : spTry j y m τ = none := spTry_none h2
        have eS : sp_explain (nI j) (nI y) (nI m) τ = (-1, bE τ 8) := by
          rw [sp_explain, if_neg gA0, ix_nI (show j < 2147483648 by omega), ix_nI (show y < 2147483648 by omega), ix_nI (show m < 2147483648 by omega), if_neg (by rw [hbz]; decide), eT]
        exact TQi.q eS (h1.b0q.I 0 8)
    · refine e_aload_n dX4_explain_40 0 rfl rfl rfl ?_
      refine e_iconst (-1) dX4_explain_41 rfl ?_
      refine e_tputI dX4_explain_42 rfl pX4_61 rfl hp (Nat.le_of_ble_eq_true rfl) (tw_f22 _) ?_
      refine e_iconst 0 dX4_explain_45 rfl ?_
      refine e_ireturn dX4_explain_46 rfl rfl (Nat.zero_le _) (Nat.zero_le _) ?_
      have hbz : shN τ j y m cn0 = true := by
        cases hh : shN τ j y m cn0 with
        | true => rfl
        | false => rw [hh] at h37; exact absurd rfl h37
      have eS : sp_explain (nI j) (nI y) (nI m) τ = (0, tI (b0 τ) 22 (-1)) := by
        rw [sp_explain, if_neg gA0, ix_nI (show j < 2147483648 by omega), ix_nI (show y < 2147483648 by omega), ix_nI (show m < 2147483648 by omega), if_pos hbz]
      refine TQi.q eS ?_
      refine Tq.I (Sx.b0q ?_) 22 (-1)
      exact (hS1.mono (by simp) (by simp) (by simp) (by simp)).trans (Sx.rf.I _ (by simp))
  · refine e_iconst (-1) dX4_explain_23 rfl ?_
    refine e_ireturn dX4_explain_24 rfl rfl (Nat.zero_le _) (Nat.zero_le _) ?_
    refine TQi.of ?_
    rw [sp_explain, if_pos (Int32.not_le.mp h20)]
    rfl

