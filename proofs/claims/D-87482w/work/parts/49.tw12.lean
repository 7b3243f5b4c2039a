/-! ===== the twin: explain ===== -/
theorem bI_nar (b : Bool) : narrow FieldType.boolean (Value.int (bI b)) = Value.int (bI b) := by cases b <;> rfl
theorem tA_at (τ : Tw) (k : Nat) (f : Nat → Int32) : (tA τ k f).2.2.1 k = f := va_up_self ..
theorem tB_at (τ : Tw) (k : Nat) (f : Nat → Int64) : (tB τ k f).2.2.2 k = f := va_up_self ..
theorem rngI_back {f0 g : Nat → Int32} {e A W : Nat} {G : Mx} (hg : ∀ k, k < 84 → g k = f0 (84 * e + k)) : rngI (fgUp f0 e A W G) (84 * e) 84 g = f0 := by
  funext j
  unfold rngI
  split
  · rename_i h
    rw [hg _ (by omega), show 84 * e + (j - 84 * e) = j by omega]
  · rename_i h
    unfold fgUp
    rw [if_neg (fun z => h ⟨z.1, z.2.1⟩)]
set_option maxHeartbeats 4000000 in
set_option maxRecDepth 100000 in
/-- a loop of shows -/
theorem t_shows1 {pre post : List ACell} {τ0 : Tw} (hp : pre.length = 56) {e y n : Nat} (he : e < 4) {Q : Qfun} : ∀ (fuel : Nat) (k : Nat) (τ : Tw), k ≤ 84 → 84 < k + fuel → τ = tA τ0 11 (rngI (τ0.2.2.1 11) 0 k (fun i => τ0.2.2.1 10 (84 * e + i))) → E cX4_shows (RX4, (some .boolean), 6, 4, (0, 0), false, []) Q noX 0 0 35 [some (.ref 56), some (.int (nI e)), some (.int (nI y)), some (.int (nI n)), none, none] [] (TW pre (tA τ0 11 (rngI (τ0.2.2.1 11) 0 84 (fun i => τ0.2.2.1 10 (84 * e + i)))) post) →
    E cX4_shows (RX4, (some .boolean), 6, 4, (0, 0), false, []) Q noX 0 0 3 [some (.ref 56), some (.int (nI e)), some (.int (nI y)), some (.int (nI n)), some (.int (nI k)), none] [] (TW pre τ post) := by
  intro fuel
  induction fuel with
  | zero => intro k τ hk hf hS hE; exact absurd hf (by omega)
  | succ fuel ih =>
    intro k τ hk hf hS hE
    refine e_iload dX4_shows_3 rfl ?_
    refine e_bipush 84 dX4_shows_5 rfl ?_
    refine e_icmp_geN k 84 35 (by omega) (by omega) dX4_shows_7 (by decide) (fun h7 => ?_) (fun h7 => ?_)
    · refine e_forget (i := 4) (ln_s (ln_s (ln_s (ln_s ln_0)))) ?_
      have e1 : k = 84 := by omega
      subst e1
      rw [← hS] at hE
      exact hE
    · refine e_aload_n dX4_shows_10 0 rfl rfl rfl ?_
      refine e_getf (v := .ref 65) dX4_shows_11 rfl fX4_35 (tw_o hp) rfl ?_
      refine e_iload dX4_shows_14 rfl ?_
      refine e_aload_n dX4_shows_16 0 rfl rfl rfl ?_
      refine e_getf (v := .ref 64) dX4_shows_17 rfl fX4_32 (tw_o hp) rfl ?_
      refine e_bipush 84 dX4_shows_20 rfl ?_
      refine e_iload_n dX4_shows_22 1 rfl rfl ?_
      refine e_imulN 84 e dX4_shows_23 ?_
      refine e_iload dX4_shows_24 rfl ?_
      refine e_iaddN (84 * e) k dX4_shows_26 ?_
      refine e_iald (f := τ.2.2.1 10) (j := (84 * e) + k) dX4_shows_27 (tw_a10 hp) rfl (by omega) (by decide) ?_
      refine e_iast (f := τ.2.2.1 11) (j := k) dX4_shows_28 (tw_a11 hp) rfl (by omega) (by decide) ?_
      rw [tw_s11 hp]
      refine e_incN k (k + 1) (inc1 _) dX4_shows_29 rfl (ls_s (ls_s (ls_s (ls_1 rfl)))) (Nat.le_of_ble_eq_true rfl) ?_
      refine e_goto 3 dX4_shows_32 (by decide) ?_
      subst hS
      refine ih (k + 1) _ (by omega) (by omega) ?_ hE
      rw [tA_tA, ← rngI_s, Nat.zero_add]
      show tA τ0 11 (upd (va_up τ0.2.2.1 11 _ 11) _ _) = _
      rw [va_up_self]
      rfl

set_option maxHeartbeats 4000000 in
set_option maxRecDepth 100000 in
/-- a loop of shows -/
theorem t_shows3 {pre post : List ACell} {τ0 : Tw} (hp : pre.length = 56) {e y n : Nat} {b : Bool} (he : e < 4) {Q : Qfun} : ∀ (fuel : Nat) (k : Nat) (τ : Tw), k ≤ 84 → 84 < k + fuel → τ = tA τ0 10 (rngI (τ0.2.2.1 10) (84 * e) k (τ0.2.2.1 11)) → Q (some (.int (bI b))) (TW pre (tA τ0 10 (rngI (τ0.2.2.1 10) (84 * e) 84 (τ0.2.2.1 11))) post) →
    E cX4_shows (RX4, (some .boolean), 6, 4, (0, 0), false, []) Q noX 0 0 104 [some (.ref 56), some (.int (nI e)), some (.int (nI y)), some (.int (nI n)), some (.int (bI b)), some (.int (nI k))] [] (TW pre τ post) := by
  intro fuel
  induction fuel with
  | zero => intro k τ hk hf hS hQ; exact absurd hf (by omega)
  | succ fuel ih =>
    intro k τ hk hf hS hQ
    refine e_iload dX4_shows_104 rfl ?_
    refine e_bipush 84 dX4_shows_106 rfl ?_
    refine e_icmp_geN k 84 136 (by omega) (by omega) dX4_shows_108 (by decide) (fun h108 => ?_) (fun h108 => ?_)
    · refine e_iload dX4_shows_136 rfl ?_
      refine e_ireturn dX4_shows_138 rfl (bI_nar _) (Nat.zero_le _) (Nat.zero_le _) ?_
      have e1 : k = 84 := by omega
      subst e1
      rw [← hS] at hQ
      exact hQ
    · refine e_aload_n dX4_shows_111 0 rfl rfl rfl ?_
      refine e_getf (v := .ref 64) dX4_shows_112 rfl fX4_32 (tw_o hp) rfl ?_
      refine e_bipush 84 dX4_shows_115 rfl ?_
      refine e_iload_n dX4_shows_117 1 rfl rfl ?_
      refine e_imulN 84 e dX4_shows_118 ?_
      refine e_iload dX4_shows_119 rfl ?_
      refine e_iaddN (84 * e) k dX4_shows_121 ?_
      refine e_aload_n dX4_shows_122 0 rfl rfl rfl ?_
      refine e_getf (v := .ref 65) dX4_shows_123 rfl fX4_35 (tw_o hp) rfl ?_
      refine e_iload dX4_shows_126 rfl ?_
      refine e_iald (f := τ.2.2.1 11) (j := k) dX4_shows_128 (tw_a11 hp) rfl (by omega) (by decide) ?_
      refine e_iast (f := τ.2.2.1 10) (j := (84 * e) + k) dX4_shows_129 (tw_a10 hp) rfl (by omega) (by decide) ?_
      rw [tw_s10 hp]
      refine e_incN k (k + 1) (inc1 _) dX4_shows_130 rfl (ls_s (ls_s (ls_s (ls_s (ls_1 rfl))))) (Nat.le_of_ble_eq_true rfl) ?_
      refine e_goto 104 dX4_shows_133 (by decide) ?_
      subst hS
      refine ih (k + 1) _ (by omega) (by omega) ?_ hQ
      rw [tA_tA, ← rngI_s]
      show tA τ0 10 (upd (va_up τ0.2.2.1 10 _ 10) _ _) = _
      rw [va_up_self]
      rfl

set_option maxHeartbeats 4000000 in
set_option maxRecDepth 100000 in
/-- a loop of shows -/
theorem t_shows2 {pre post : List ACell} {τ0 : Tw} (hp : pre.length = 56) {a0 : Nat → Int32} {A W M : Nat} {rd : Nat → Nat} {cnt : Nat → Nat → Nat → Nat → Nat} {F : Mx} {e y n : Nat} (hB : Bnd A W rd F) (hn : n ≤ 60) (hy : y < 4) {Q : Qfun} : ∀ (fuel : Nat) (k : Nat) (τ : Tw) (b : Bool), k ≤ n → n < k + fuel → Sx [] [] [10, 17] [] τ τ0 → EnF τ e A W M rd → (∀ t, t ≤ 1000 → mhN τ e (nI t) true = cnt t) → τ.2.2.1 10 = fgUp a0 e A W (trnN A W rd cnt 0 F k) → b = allB (fun k => decide (spCut (τ0.2.2.1 2 y) (oaM W rd (trnN A W rd cnt 0 F (k + 1)) 0) = τ0.2.2.2 4 (60 * y + k))) k → (∀ τ : Tw, ∀ G : Mx, Sx [] [] [10, 17] [] τ τ0 → τ.2.2.1 10 = fgUp a0 e A W G → E cX4_shows (RX4, (some .boolean), 6, 4, (0, 0), false, []) Q noX 0 0 101 [some (.ref 56), some (.int (nI e)), some (.int (nI y)), some (.int (nI n)), some (.int (bI (allB (fun k => decide (spCut (τ0.2.2.1 2 y) (oaM W rd (trnN A W rd cnt 0 F (k + 1)) 0) = τ0.2.2.2 4 (60 * y + k))) n))), none] [] (TW pre τ post)) →
    E cX4_shows (RX4, (some .boolean), 6, 4, (0, 0), false, []) Q noX 0 0 41 [some (.ref 56), some (.int (nI e)), some (.int (nI y)), some (.int (nI n)), some (.int (bI b)), some (.int (nI (k + 1)))] [] (TW pre τ post) := by
  intro fuel
  induction fuel with
  | zero => intro k τ b hk hf hS hN hcn hfig hb hE; exact absurd hf (by omega)
  | succ fuel ih =>
    intro k τ b hk hf hS hN hcn hfig hb hE
    obtain ⟨he, hA, hA2, hW1, hW, eA, eW, hM, eM, hrd, hr⟩ := id hN
    refine e_iload dX4_shows_41 rfl ?_
    refine e_iload_n dX4_shows_43 3 rfl rfl ?_
    refine e_icmp_gtN (k + 1) n 101 (by omega) (by omega) dX4_shows_44 (by decide) (fun h44 => ?_) (fun h44 => ?_)
    · refine e_forget (i := 5) (ln_s (ln_s (ln_s (ln_s (ln_s ln_0))))) ?_
      have e1 : k = n := by omega
      subst e1
      rw [hb]
      exact hE τ _ hS hfig
    · refine e_iload dX4_shows_47 rfl ?_
      refine e_if_eq 101 dX4_shows_49 (by decide) (fun h49 => ?_) (fun h49 => ?_)
      · refine e_forget (i := 5) (ln_s (ln_s (ln_s (ln_s (ln_s ln_0))))) ?_
        have e1 : b = false := by
          cases b with
          | false => rfl
          | true => exact absurd h49 (by decide)
        subst e1
        have e2 := allB_f hk hb.symm
        have e3 := hE τ _ hS hfig
        rw [e2] at e3
        exact e3
      · have hbt : b = true := by
          cases b with
          | true => rfl
          | false => exact absurd rfl h49
        subst hbt
        refine e_aload_n dX4_shows_52 0 rfl rfl rfl ?_
        refine e_iload_n dX4_shows_53 1 rfl rfl ?_
        refine e_iload dX4_shows_54 rfl ?_
        refine e_iconst 1 dX4_shows_56 rfl ?_
        refine e_callVQ (As := [.int (nI e), .int (nI (k + 1)), .int 1]) (rest := []) dX4_shows_57 rfl mvX4_309 (tw_o hp) rfl (t_turnOne hp (t := nI (k + 1)) (tr := true) (trnN_ok hW1 hrd hB k) (by exact hN) (cnt := cnt (0 + k + 1)) (by rw [hcn (k + 1) (by omega), Nat.zero_add]) (by exact hfig)) (Nat.le_of_ble_eq_true rfl) rfl rfl (Nat.le_of_ble_eq_true rfl) (Nat.zero_le _) (Nat.zero_le _) (fun v0 M0 h0 _ => ?_)
        obtain ⟨τ1, rfl, rfl, hS1, hf1⟩ := h0
        replace hf1 : τ1.2.2.1 10 = fgUp a0 e A W (trnN A W rd cnt 0 F (k + 1)) := hf1
        have hS2 : Sx [] [] [10, 17] [] τ1 τ0 := hS1.trans hS
        have hN1 : EnF τ1 e A W M rd := EnF.sx hN hS1 (by decide) (by decide) (by decide) (by decide)
        refine e_aload_n dX4_shows_60 0 rfl rfl rfl ?_
        refine e_getf (v := .ref 57) dX4_shows_61 rfl fX4_7 (tw_o hp) rfl ?_
        refine e_iload_n dX4_shows_64 2 rfl rfl ?_
        refine e_iald (f := τ1.2.2.1 2) (j := y) dX4_shows_65 (tw_a2 hp) rfl (by omega) (by decide) ?_
        refine e_aload_n dX4_shows_66 0 rfl rfl rfl ?_
        refine e_iload_n dX4_shows_67 1 rfl rfl ?_
        refine e_iconst 0 dX4_shows_68 rfl ?_
        refine e_callV1 (As := [.int (nI e), .int 0]) (rest := [.int (τ1.2.2.1 2 y)]) dX4_shows_69 rfl mvX4_267 (tw_o hp) rfl (t_onM (x := 0) hp hN1 (by omega) (by exact hf1)) (Nat.le_of_ble_eq_true rfl) rfl rfl (Nat.le_of_ble_eq_true rfl) (Nat.zero_le _) (Nat.zero_le _) ?_
        refine e_callS1 (As := [.int (τ1.2.2.1 2 y), .long (oaM W rd (trnN A W rd cnt 0 F (k + 1)) 0)]) (rest := []) dX4_shows_72 rfl msX4_318 (t_cutTo (τ1.2.2.1 2 y) (oaM W rd (trnN A W rd cnt 0 F (k + 1)) 0)) (Nat.le_of_ble_eq_true rfl) rfl rfl (Nat.le_of_ble_eq_true rfl) (Nat.zero_le _) (Nat.zero_le _) ?_
        refine e_aload_n dX4_shows_75 0 rfl rfl rfl ?_
        refine e_iload_n dX4_shows_76 2 rfl rfl ?_
        refine e_iload dX4_shows_77 rfl ?_
        refine e_iconst 1 dX4_shows_79 rfl ?_
        refine e_isubN (k + 1) 1 (by omega) dX4_shows_80 ?_
        refine e_callV1 (As := [.int (nI y), .int (nI ((k + 1) - 1))]) (rest := [.long (spCut (τ1.2.2.1 2 y) (oaM W rd (trnN A W rd cnt 0 F (k + 1)) 0))]) dX4_shows_81 rfl mvX4_255 (tw_o hp) rfl (t_numberOf hp y ((k + 1) - 1) (by omega) (by omega)) (Nat.le_of_ble_eq_true rfl) rfl rfl (Nat.le_of_ble_eq_true rfl) (Nat.zero_le _) (Nat.zero_le _) ?_
        refine e_lcmp_ne 92 dX4_shows_84 dX4_shows_85 (by decide) (fun h84 => ?_) (fun h84 => ?_)
        · refine e_iconst 0 dX4_shows_92 rfl ?_
          refine e_istore dX4_shows_93 (ls_s (ls_s (ls_s (ls_1 rfl)))) (Nat.le_of_ble_eq_true rfl) ?_
          refine e_incN (k + 1) (k + 1 + 1) (inc1 _) dX4_shows_95 rfl (ls_s (ls_s (ls_s (ls_s (ls_1 rfl))))) (Nat.le_of_ble_eq_true rfl) ?_
          refine e_goto 41 dX4_shows_98 (by decide) ?_
          have g4 : spCut (τ0.2.2.1 2 y) (oaM W rd (trnN A W rd cnt 0 F (k + 1)) 0) ≠ τ0.2.2.2 4 (60 * y + k) := by rw [← hS2.2.2.1 2 (by decide), ← hS2.2.2.2 4 (by simp)]; exact h84
          refine ih (k + 1) τ1 false (by omega) (by omega) hS2 hN1 (fun t ht => (mhN_sx hS1 (by decide) (by decide) (by decide) (by decide) (by decide) e (nI t) true).trans (hcn t ht)) hf1 ?_ hE
          rw [allB, ← hb]
          exact (decide_eq_false g4).symm
        · refine e_iconst 1 dX4_shows_88 rfl ?_
          refine e_goto 93 dX4_shows_89 (by decide) ?_
          refine e_istore dX4_shows_93 (ls_s (ls_s (ls_s (ls_1 rfl)))) (Nat.le_of_ble_eq_true rfl) ?_
          refine e_incN (k + 1) (k + 1 + 1) (inc1 _) dX4_shows_95 rfl (ls_s (ls_s (ls_s (ls_s (ls_1 rfl))))) (Nat.le_of_ble_eq_true rfl) ?_
          refine e_goto 41 dX4_shows_98 (by decide) ?_
          have g4 : spCut (τ0.2.2.1 2 y) (oaM W rd (trnN A W rd cnt 0 F (k + 1)) 0) = τ0.2.2.2 4 (60 * y + k) := by rw [← hS2.2.2.1 2 (by decide), ← hS2.2.2.2 4 (by simp)]; exact h84
          refine ih (k + 1) τ1 true (by omega) (by omega) hS2 hN1 (fun t ht => (mhN_sx hS1 (by decide) (by decide) (by decide) (by decide) (by decide) e (nI t) true).trans (hcn t ht)) hf1 ?_ hE
          rw [allB, ← hb]
          exact (decide_eq_true g4).symm

set_option maxHeartbeats 4000000 in
set_option maxRecDepth 100000 in
/-- WheelTablesModel.shows -/
theorem t_shows {pre post : List ACell} {τ : Tw} (hp : pre.length = 56) {cnt : Nat → Nat → Nat → Nat → Nat} {e y n : Nat} (he : e < 4) (hy : y < 4) (hn : n ≤ 60) (hO : EngOk τ e) (hcn : ∀ t, t ≤ 1000 → mhN τ e (nI t) true = cnt t) : Ct yX4_shows (ws_ yX4_shows cX4_shows 6 (some .boolean)) 4 0 0 [.ref 56, .int (nI e), .int (nI y), .int (nI n)] (TW pre τ post) (fun v N => ∃ τ1, N = TW pre τ1 post ∧ v = some (.int (bI (shN τ e y n cnt))) ∧ Sx [] [] [11, 17] [] τ1 τ) noX := by
  have hN := hO.F he
  refine Ct.of (ini := false) (ls := [some (.ref 56), some (.int (nI e)), some (.int (nI y)), some (.int (nI n)), none, none]) (by decide) (Nat.le_of_ble_eq_true rfl) (fun h => by cases h) rfl ?_
  refine e_iconst 0 dX4_shows_0 rfl ?_
  refine e_istore dX4_shows_1 (ls_s (ls_s (ls_s (ls_1 rfl)))) (Nat.le_of_ble_eq_true rfl) ?_
  refine t_shows1 (τ0 := τ) hp he 85 0 τ (by omega) (by omega) (by rw [rngI_0, tA_self]) ?_
  refine e_iconst 1 dX4_shows_35 rfl ?_
  refine e_istore dX4_shows_36 (ls_s (ls_s (ls_s (ls_1 rfl)))) (Nat.le_of_ble_eq_true rfl) ?_
  refine e_iconst 1 dX4_shows_38 rfl ?_
  refine e_istore dX4_shows_39 (ls_s (ls_s (ls_s (ls_s (ls_1 rfl))))) (Nat.le_of_ble_eq_true rfl) ?_
  refine t_shows2 (τ0 := tA τ 11 (rngI (τ.2.2.1 11) 0 84 (fun i => τ.2.2.1 10 (84 * e + i)))) (a0 := τ.2.2.1 10) (F := gF τ e) hp (cnt := cnt) hO.B hn hy (n + 1) 0 _ true (by omega) (by omega) Sx.rf (by exact hN) hcn (by exact hO.self.symm) rfl (fun τ1 G hS1 hf1 => ?_)
  refine e_iconst 0 dX4_shows_101 rfl ?_
  refine e_istore dX4_shows_102 (ls_s (ls_s (ls_s (ls_s (ls_1 rfl))))) (Nat.le_of_ble_eq_true rfl) ?_
  refine t_shows3 (τ0 := τ1) hp he 85 0 τ1 (by omega) (by omega) (by rw [rngI_0, tA_self]) ?_
  have hb10 : rngI (τ1.2.2.1 10) (84 * e) 84 (τ1.2.2.1 11) = τ.2.2.1 10 := by
    rw [hf1]
    refine rngI_back (fun k hk => ?_)
    rw [hS1.2.2.1 11 (by decide)]
    rw [tA_at]
    unfold rngI
    rw [if_pos ⟨by omega, by omega⟩, Nat.sub_zero]
  rw [hb10]
  refine ⟨_, rfl, rfl, ?_⟩
  refine ⟨fun k _ => hS1.1 k (by simp), fun k _ => hS1.2.1 k (by simp), fun k hk => ?_, fun k _ => hS1.2.2.2 k (by simp)⟩
  show va_up τ1.2.2.1 10 _ k = _
  by_cases e1 : k = 10
  · subst e1; rw [va_up_self]
  · rw [va_up_ne _ _ e1, hS1.2.2.1 k (fun z => by
      rcases List.mem_cons.mp z with z | z
      · exact e1 z
      · exact hk (List.mem_cons.mpr (Or.inr z)))]
    show va_up τ.2.2.1 11 _ k = _
    rw [va_up_ne _ _ (fun z => hk (by rw [z]; decide))]

