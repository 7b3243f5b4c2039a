/-! ===== the twin: errata (5) ===== -/
theorem Tq.rgS {τ ς : Tw} (h : Tq τ ς) (i : Nat) (v : Int32) (j : Nat) (u : Int32) : Tq (Jvm.Pilot.CWheelTablesLaw_law_r7050_39b0b1.rgS τ i v j u) (Jvm.Pilot.CWheelTablesLaw_law_r7050_39b0b1.rgS ς i v j u) := by
  unfold Jvm.Pilot.CWheelTablesLaw_law_r7050_39b0b1.rgS
  rw [h.2.1 75 (by decide), h.2.1 76 (by decide)]
  exact (h.A 75 _).A 76 _
theorem Tq.cpF {τ ς : Tw} (h : Tq τ ς) (m : Nat) : Tq (Jvm.Pilot.CWheelTablesLaw_law_r7050_39b0b1.cpF τ m) (Jvm.Pilot.CWheelTablesLaw_law_r7050_39b0b1.cpF ς m) := by
  unfold Jvm.Pilot.CWheelTablesLaw_law_r7050_39b0b1.cpF
  rw [h.2.1 75 (by decide), h.2.1 76 (by decide), h.2.1 97 (by decide), h.2.1 98 (by decide)]
  exact ((h.I 74 _).A 97 _).A 98 _
set_option maxHeartbeats 4000000 in
set_option maxRecDepth 100000 in
/-- a loop of errata -/
theorem t_fin8 {pre post : List ACell} (hp : pre.length = 56) {y n k : Nat} {b : Int32} {Q : Qfun} : ∀ (fuel : Nat) (τ : Tw), 0 < fuel → Q (some (.int (-1))) (TW pre (tI τ 0 8) post) →
    E cX4_errata (RX4, (some .int), 8, 4, (0, 0), false, []) Q noX 0 0 293 [some (.ref 56), some (.int (nI y)), some (.int (nI n)), some (.int (nI k)), some (.int b), some (.int (-1)), none, none] [] (TW pre τ post) := by
  intro fuel
  induction fuel with
  | zero => intro τ hf hQ; exact absurd hf (by omega)
  | succ fuel ih =>
    intro τ hf hQ
    refine e_iload dX4_errata_293 rfl ?_
    refine e_if_ge_f (by decide) 305 dX4_errata_295 (by decide) ?_
    refine e_aload_n dX4_errata_298 0 rfl rfl rfl ?_
    refine e_bipush 8 dX4_errata_299 rfl ?_
    refine e_callV1 (As := [.int 8]) (rest := []) dX4_errata_301 rfl mvX4_252 (tw_o hp) rfl (t_refuse hp 8) (Nat.le_of_ble_eq_true rfl) rfl rfl (Nat.le_of_ble_eq_true rfl) (Nat.zero_le _) (Nat.zero_le _) ?_
    refine e_ireturn dX4_errata_304 rfl rfl (Nat.zero_le _) (Nat.zero_le _) ?_
    exact hQ

set_option maxHeartbeats 4000000 in
set_option maxRecDepth 100000 in
/-- a loop of errata -/
theorem t_to293 {pre post : List ACell} (hp : pre.length = 56) {y n k : Nat} {b : Int32} (hn : n ≤ 20) (hn1 : 1 ≤ n) {Q : Qfun} : ∀ (fuel : Nat) (τ : Tw), 0 < fuel → E cX4_errata (RX4, (some .int), 8, 4, (0, 0), false, []) Q noX 0 0 293 [some (.ref 56), some (.int (nI y)), some (.int (nI n)), some (.int (nI k)), some (.int b), some (.int 1), none, none] [] (TW pre τ post) →
    E cX4_errata (RX4, (some .int), 8, 4, (0, 0), false, []) Q noX 0 0 232 [some (.ref 56), some (.int (nI y)), some (.int (nI n)), some (.int (nI k)), some (.int b), some (.int 1), none, none] [] (TW pre τ post) := by
  intro fuel
  induction fuel with
  | zero => intro τ hf hE; exact absurd hf (by omega)
  | succ fuel ih =>
    intro τ hf hE
    refine e_iconst 0 dX4_errata_232 rfl ?_
    refine e_istore dX4_errata_233 (ls_s (ls_s (ls_s (ls_s (ls_s (ls_1 rfl)))))) (Nat.le_of_ble_eq_true rfl) ?_
    refine e_iload dX4_errata_235 rfl ?_
    refine e_iload_n dX4_errata_237 2 rfl rfl ?_
    refine e_icmp_geN 0 n 293 (by omega) (by omega) dX4_errata_238 (by decide) (fun h238 => ?_) (fun h238 => ?_)
    · exact absurd h238 (by omega)
    · refine e_iload dX4_errata_241 rfl ?_
      refine e_if_ge_t 293 (by decide) dX4_errata_243 (by decide) ?_
      refine e_forget (i := 6) (ln_s (ln_s (ln_s (ln_s (ln_s (ln_s ln_0)))))) ?_
      exact hE

set_option maxHeartbeats 4000000 in
set_option maxRecDepth 100000 in
/-- a loop of errata -/
theorem t_errE0 {pre post : List ACell} {τ0 : Tw} (hp : pre.length = 56) {T0 : Nat → Int64} {xs : Nat → Nat} {n k : Nat} {b : Int32} (hn : n ≤ 20) (hk1 : 1 ≤ k) (hkn : k < n) (hV : ∀ q, q < n → VO q (corL (xs q)) (τ0.2.2.2 72) (τ0.2.2.1 73)) {y : Nat} {Q : Qfun} : ∀ (fuel : Nat) (w : Nat → Int64), 0 < fuel → ((∀ p q, p < q → q < n → spTwo n k b T0 xs p q = none) → ∀ w, E cX4_errata (RX4, (some .int), 8, 4, (0, 0), false, []) Q noX 0 0 293 [some (.ref 56), some (.int (nI y)), some (.int (nI n)), some (.int (nI k)), some (.int b), some (.int (-1)), none, none] [] (TW pre (tB (tB τ0 70 T0) 71 w) post)) → (∀ i j m w2 T2, i < j → j < n → spTwo n k b T0 xs i j = some m → (∀ p q, p < i → p < q → q < n → spTwo n k b T0 xs p q = none) → (∀ q, i < q → q < j → spTwo n k b T0 xs i q = none) → E cX4_errata (RX4, (some .int), 8, 4, (0, 0), false, []) Q noX 0 0 293 [some (.ref 56), some (.int (nI y)), some (.int (nI n)), some (.int (nI k)), some (.int b), some (.int 2), none, none] [] (TW pre (rgS (tB (tB τ0 70 T2) 71 w2) i ((corL (xs i)).2 (m / rgM xs j)) j ((corL (xs j)).2 (m % rgM xs j))) post)) →
    E cX4_errata (RX4, (some .int), 8, 4, (0, 0), false, []) Q noX 0 0 232 [some (.ref 56), some (.int (nI y)), some (.int (nI n)), some (.int (nI k)), some (.int b), some (.int (-1)), none, none] [] (TW pre (tB (tB τ0 70 T0) 71 w) post) := by
  intro fuel
  induction fuel with
  | zero => intro w hf hN hS; exact absurd hf (by omega)
  | succ fuel ih =>
    intro w hf hN hS
    refine e_iconst 0 dX4_errata_232 rfl ?_
    refine e_istore dX4_errata_233 (ls_s (ls_s (ls_s (ls_s (ls_s (ls_1 rfl)))))) (Nat.le_of_ble_eq_true rfl) ?_
    exact t_errE hp hn hk1 hkn hV (n + 1) 0 w (by omega) (by omega) (fun p q h => absurd h (by omega)) hN hS

set_option maxHeartbeats 4000000 in
set_option maxRecDepth 100000 in
/-- WheelTablesModel.errata -/
theorem t_errata {pre post : List ACell} {τ : Tw} (hp : pre.length = 56) (hT : InvT τ) (t n k b : Int32) : Ct yX4_errata (ws_ yX4_errata cX4_errata 8 (some .int)) 4 0 0 [.ref 56, .int t, .int n, .int k, .int b] (TW pre τ post) (TQi pre post (sp_errata t n k b τ)) noX := by
  refine Ct.of (ini := false) (ls := [some (.ref 56), some (.int t), some (.int n), some (.int k), some (.int b), none, none, none]) (by decide) (Nat.le_of_ble_eq_true rfl) (fun h => by cases h) rfl ?_
  refine e_aload_n dX4_errata_0 0 rfl rfl rfl ?_
  refine e_iconst 0 dX4_errata_1 rfl ?_
  refine e_tputI dX4_errata_2 rfl pX4_212 rfl hp (Nat.le_of_ble_eq_true rfl) (tw_f1 _) ?_
  refine e_aload_n dX4_errata_5 0 rfl rfl rfl ?_
  refine e_aload_n dX4_errata_6 0 rfl rfl rfl ?_
  refine e_iload_n dX4_errata_7 1 rfl rfl ?_
  refine e_callV1 (As := [.int t]) (rest := [.ref 56]) dX4_errata_8 rfl mvX4_222 (tw_o hp) rfl (t_trayed hp (by exact hT) t) (Nat.le_of_ble_eq_true rfl) rfl rfl (Nat.le_of_ble_eq_true rfl) (Nat.zero_le _) (Nat.zero_le _) ?_
  refine e_tputI dX4_errata_11 rfl pX4_215 rfl hp (Nat.le_of_ble_eq_true rfl) (tw_f0 _) ?_
  refine e_aload_n dX4_errata_14 0 rfl rfl rfl ?_
  refine e_getf (v := .int (spT t τ)) dX4_errata_15 rfl fX4_215 (tw_o hp) rfl ?_
  refine e_if_le 23 dX4_errata_18 (by decide) (fun h18 => ?_) (fun h18 => ?_)
  · have h18' := Int32.not_lt.mpr h18
    have z0 := (spT_0 hT h18').1
    rw [show spT t (tI τ 1 0) = 0 from z0]
    refine e_iload_n dX4_errata_23 2 rfl rfl ?_
    refine e_i2l dX4_errata_24 ?_
    refine e_ldc2 rfl q1572 dX4_errata_25 ?_
    refine e_ldc2 rfl q1578 dX4_errata_28 ?_
    refine e_callSB (As := [.long n.toInt64, .long 3, .long 20]) (rest := []) dX4_errata_31 rfl msX4_239 (t_isInI n 3 20 rfl (by decide) (by decide)) (Nat.le_of_ble_eq_true rfl) rfl rfl (Nat.le_of_ble_eq_true rfl) (Nat.zero_le _) (Nat.zero_le _) (fun h31 => ?_) (fun h31 => ?_)
    · refine e_if_eq_f (by decide) 67 dX4_errata_34 (by decide) ?_
      refine e_iload_n dX4_errata_37 3 rfl rfl ?_
      refine e_i2l dX4_errata_38 ?_
      refine e_lconst 1 dX4_errata_39 rfl ?_
      refine e_ldc2 rfl q1577 dX4_errata_40 ?_
      refine e_callSB (As := [.long k.toInt64, .long 1, .long 4]) (rest := []) dX4_errata_43 rfl msX4_239 (t_isInI k 1 4 rfl (by decide) (by decide)) (Nat.le_of_ble_eq_true rfl) rfl rfl (Nat.le_of_ble_eq_true rfl) (Nat.zero_le _) (Nat.zero_le _) (fun h43 => ?_) (fun h43 => ?_)
      · refine e_if_eq_f (by decide) 67 dX4_errata_46 (by decide) ?_
        obtain ⟨m, hm, rfl⟩ := in_oc (x := n) (c := 20) 20 (by decide) (Int32.le_trans (by decide) h31.1) h31.2
        obtain ⟨r, hr, rfl⟩ := in_oc (x := k) (c := 4) 4 (by decide) (Int32.le_trans (by decide) h43.1) h43.2
        have hm3 := (nI_leN (a := 3) (b := m) (by omega) (by omega)).mp h31.1
        have hr1 := (nI_leN (a := 1) (b := r) (by omega) (by omega)).mp h43.1
        refine e_iload_n dX4_errata_49 3 rfl rfl ?_
        refine e_iload_n dX4_errata_50 2 rfl rfl ?_
        refine e_icmp_geN r m 67 (by omega) (by omega) dX4_errata_51 (by decide) (fun h51 => ?_) (fun h51 => ?_)
        · refine e_aload_n dX4_errata_67 0 rfl rfl rfl ?_
          refine e_iconst 5 dX4_errata_68 rfl ?_
          refine e_callV1 (As := [.int 5]) (rest := []) dX4_errata_69 rfl mvX4_252 (tw_o hp) rfl (t_refuse hp 5) (Nat.le_of_ble_eq_true rfl) rfl rfl (Nat.le_of_ble_eq_true rfl) (Nat.zero_le _) (Nat.zero_le _) ?_
          refine e_ireturn dX4_errata_72 rfl rfl (Nat.zero_le _) (Nat.zero_le _) ?_
          refine TQi.of ?_
          rw [sp_errata, if_neg h18', if_pos (fun z => absurd ((nI_ltN (by omega) (by omega)).mp z.2.1) (by omega))]
          rfl
        · refine e_iload dX4_errata_54 rfl ?_
          refine e_i2l dX4_errata_56 ?_
          refine e_lconst 0 dX4_errata_57 rfl ?_
          refine e_ldc2 rfl q1526 dX4_errata_58 ?_
          refine e_callSB (As := [.long b.toInt64, .long 0, .long 1000]) (rest := []) dX4_errata_61 rfl msX4_239 (t_isInI b 0 1000 rfl (by decide) (by decide)) (Nat.le_of_ble_eq_true rfl) rfl rfl (Nat.le_of_ble_eq_true rfl) (Nat.zero_le _) (Nat.zero_le _) (fun h61 => ?_) (fun h61 => ?_)
          · refine e_if_ne_t 73 (by decide) dX4_errata_64 (by decide) ?_
            obtain ⟨-, y, hy, rfl, q0, hq0, eq0⟩ := spT_0 hT h18'
            have hsp : spErr (nI m) (nI r) b := ⟨⟨h31, h43⟩, (nI_ltN (by omega) (by omega)).mpr (by omega), h61⟩
            refine e_aload_n dX4_errata_73 0 rfl rfl rfl ?_
            refine e_getf (v := .ref 58) dX4_errata_74 rfl fX4_13 (tw_o hp) rfl ?_
            refine e_iload_n dX4_errata_77 1 rfl rfl ?_
            refine e_iald (f := τ.2.2.1 3) (j := y) dX4_errata_78 (tw_a3 hp) rfl (by omega) (by decide) ?_
            refine e_top (congrArg Value.int eq0) ?_
            refine e_iload_n dX4_errata_79 2 rfl rfl ?_
            refine e_icmp_geN q0 m 89 (by omega) (by omega) dX4_errata_80 (by decide) (fun h80 => ?_) (fun h80 => ?_)
            · refine e_iconst 0 dX4_errata_89 rfl ?_
              refine e_istore dX4_errata_90 (ls_s (ls_s (ls_s (ls_s (ls_1 rfl))))) (Nat.le_of_ble_eq_true rfl) ?_
              have hnt : ¬ nI q0 < nI m := fun z => absurd ((nI_ltN (by omega) (by omega)).mp z) (by omega)
              refine t_errA (τ := tI (tI τ 1 0) 0 0) hp hy hm (m + 1) 0 (by omega) (by omega) rfl (fun z => ?_) (fun hz => ?_)
              · refine TQi.of ?_
                rw [sp_errata, if_neg h18', if_neg (fun z => z hsp), ix_nI (show y < 2147483648 by omega), eq0, if_neg hnt, ix_nI (show m < 2147483648 by omega), if_pos (show ¬ spEight y m τ = true from z)]
                rfl
              have eS : sp_errata (nI y) (nI m) (nI r) b τ = spFind m r b (spTb τ y) (spXs τ y) τ := by
                rw [sp_errata, if_neg h18', if_neg (fun z => z hsp), ix_nI (show y < 2147483648 by omega), eq0, if_neg hnt, ix_nI (show m < 2147483648 by omega), ix_nI (show r < 2147483648 by omega), if_neg (fun z => z (show spEight y m τ = true from hz))]
              rw [eS]
              generalize hxe : spXs τ y = xs
              have hnum : ∀ q, q < m → xs q ≤ 99999999 ∧ (τ.2.2.2 4 (60 * y + q)).toInt32 = nI (xs q) := fun q hq => by
                have h9 := of_decide_eq_true (allB_iff.mp (show spEight y m τ = true from hz) q hq)
                rw [← hxe]
                exact xs_ok h9.1 h9.2
              refine e_iconst 0 dX4_errata_127 rfl ?_
              refine e_istore dX4_errata_128 (ls_s (ls_s (ls_s (ls_s (ls_1 rfl))))) (Nat.le_of_ble_eq_true rfl) ?_
              refine E_mem (show TW pre (tB (tI (tI τ 1 0) 0 0) 70 ((tI (tI τ 1 0) 0 0).2.2.2 70)) post = _ by rw [tB_self]) ?_
              refine t_errB (τ0 := tI (tI τ 1 0) 0 0) hp hy hm (m + 1) 0 _ (by omega) (by omega) (by rw [rngL_0]) ?_
              refine e_iconst 0 dX4_errata_156 rfl ?_
              refine e_istore dX4_errata_157 (ls_s (ls_s (ls_s (ls_s (ls_1 rfl))))) (Nat.le_of_ble_eq_true rfl) ?_
              generalize hTe : rngL ((tI (tI τ 1 0) 0 0).2.2.2 70) 0 m (fun q => (tI (tI τ 1 0) 0 0).2.2.2 4 (60 * y + q)) = T
              have hTq : ∀ q, q < m → T q = spTb τ y q := fun q hq => by
                rw [← hTe]
                unfold rngL
                rw [if_pos ⟨by omega, by omega⟩, Nat.sub_zero]
                rfl
              generalize hse : tB (tI (tI τ 1 0) 0 0) 70 T = σ
              have hs70 : σ.2.2.2 70 = T := by rw [← hse]; exact tB_at _ _ _
              have hqs : Tq σ (b0 τ) := by rw [← hse]; exact Tq.rf.b 70 T (by decide)
              refine E_mem (show TW pre (tA (tB σ 72 (σ.2.2.2 72)) 73 (σ.2.2.1 73)) post = _ by rw [show tA (tB σ 72 (σ.2.2.2 72)) 73 (σ.2.2.1 73) = tA (tB σ 72 (σ.2.2.2 72)) 73 ((tB σ 72 (σ.2.2.2 72)).2.2.1 73) from rfl, tA_self, tB_self]) ?_
              refine t_errC (τ0 := σ) (xs := xs) hp hy hm (fun q hq => by rw [hs70, hTq q hq]; exact hnum q hq) (m + 1) 0 _ _ (by omega) (by omega) (fun z hz => absurd hz (by omega)) (fun V C hV => ?_)
              refine E_mem (show TW pre (tB (tB (tA (tB σ 72 V) 73 C) 70 T) 71 ((tA (tB σ 72 V) 73 C).2.2.2 71)) post = _ by rw [show T = (tA (tB σ 72 V) 73 C).2.2.2 70 from hs70.symm, tB_self, tB_self]) ?_
              have hqs2 : Tq (tA (tB σ 72 V) 73 C) (b0 τ) := (hqs.b 72 V (by decide)).a 73 C (by decide)
              generalize hre : tA (tB σ 72 V) 73 C = ρ at hqs2 ⊢
              have hVr : ∀ q, q < m → VO q (corL (xs q)) (ρ.2.2.2 72) (ρ.2.2.1 73) := fun q hq => by rw [← hre]; exact hV q hq
              rw [show spFind m r b (spTb τ y) xs τ = spFind m r b T xs τ from (spFind_cg hTq τ).symm]
              have hrm : r < m := by omega
              refine e_iconst (-1) dX4_errata_177 rfl ?_
              refine e_istore dX4_errata_178 (ls_s (ls_s (ls_s (ls_s (ls_1 rfl))))) (Nat.le_of_ble_eq_true rfl) ?_
              refine e_aload_n dX4_errata_180 0 rfl rfl rfl ?_
              refine e_iload_n dX4_errata_181 2 rfl rfl ?_
              refine e_iload_n dX4_errata_182 3 rfl rfl ?_
              refine e_iload dX4_errata_183 rfl ?_
              refine e_callVQ (As := [.int (nI m), .int (nI r), .int b]) (rest := []) dX4_errata_185 rfl mvX4_506 (tw_o hp) rfl (t_smooth (τ0 := ρ) (T := T) hp hm hr1 hrm (ρ.2.2.2 71)) (Nat.le_of_ble_eq_true rfl) rfl rfl (Nat.le_of_ble_eq_true rfl) (Nat.zero_le _) (Nat.zero_le _) (fun v0 M0 h0 _ => ?_)
              obtain ⟨w2, rfl, rfl⟩ := h0
              refine e_if_eq 194 dX4_errata_188 (by decide) (fun h188 => ?_) (fun h188 => ?_)
              · refine e_iconst 0 dX4_errata_194 rfl ?_
                refine e_istore dX4_errata_195 (ls_s (ls_s (ls_s (ls_s (ls_s (ls_1 rfl)))))) (Nat.le_of_ble_eq_true rfl) ?_
                have hsm : ¬ smN m r b T = true := by rw [bI_f h188]; decide
                refine t_errD (τ0 := ρ) (T0 := T) (xs := xs) hp hm hr1 hrm hVr (m + 1) 0 w2 (by omega) (by omega) (fun q hq => absurd hq (by omega)) (fun hz1 w => ?_) (fun i q w T2 hi h1 h2 => ?_)
                · have ef1 : spFst1 m r b T xs = none := fstN_none (fun p _ hp1 => by rw [hz1 p (by omega)]; rfl)
                  refine t_errE0 (τ0 := ρ) (T0 := T) (xs := xs) hp hm hr1 hrm hVr 1 w (by omega) (fun hz2 w => ?_) (fun i j q w T2 h1 h2 h3 h4 h5 => ?_)
                  · have ef2 : spFst2 m r b T xs = none := fstN_none (fun p _ hp1 => by
                      by_cases e : p / m < p % m
                      · rw [hz2 _ _ e (Nat.mod_lt _ (by omega)), Option.isSome_none, Bool.and_false]
                      · rw [decide_eq_false e, Bool.false_and])
                    refine t_fin8 hp 1 _ (by omega) ?_
                    have eF : spFind m r b T xs τ = (-1, bE τ 8) := by
                      unfold spFind; rw [if_neg hsm, ef1, ef2]
                    exact TQi.q eF (((hqs2.b 70 _ (by decide)).b 71 _ (by decide)).I 0 8)
                  · have hd := dvm (t := i) h2
                    have ef2 : spFst2 m r b T xs = some (i * m + j) := by
                      refine fstN_some ?_ (Nat.zero_le _) ?_ (fun p _ hp1 => ?_)
                      · rw [hd.1, hd.2, decide_eq_true h1, h3]; rfl
                      · have := Nat.mul_le_mul_right m (show i + 1 ≤ m by omega)
                        rw [Nat.succ_mul] at this
                        omega
                      · by_cases e : p / m < p % m
                        · have hpm : p % m < m := Nat.mod_lt _ (by omega)
                          have hdm := Nat.div_add_mod p m
                          by_cases e2 : p / m < i
                          · rw [h4 _ _ e2 e hpm, Option.isSome_none, Bool.and_false]
                          · have e3 : p / m = i := by
                              have h7 : p / m ≤ i := by
                                rw [← hd.1]; exact Nat.div_le_div_right (by omega)
                              omega
                            have h8 : p % m < j := by
                              rw [e3, Nat.mul_comm] at hdm
                              omega
                            rw [e3] at e ⊢
                            rw [h5 _ e h8, Option.isSome_none, Bool.and_false]
                        · rw [decide_eq_false e, Bool.false_and]
                    refine t_fin2 hp 1 _ (by omega) ?_
                    have eF : spFind m r b T xs τ = (2, cpF (rgS (b0 τ) i ((corL (xs i)).2 (q / rgM xs j)) j ((corL (xs j)).2 (q % rgM xs j))) 2) := by
                      unfold spFind; rw [if_neg hsm, ef1, ef2]
                      simp only [hd.1, hd.2, h3, Option.getD_some]
                    exact TQi.q eF ((((hqs2.b 70 _ (by decide)).b 71 _ (by decide)).rgS i _ j _).cpF 2)
                · have ef1 : spFst1 m r b T xs = some i := fstN_some (by rw [h1]; rfl) (Nat.zero_le _) (by omega) (fun p _ hp1 => by rw [h2 p hp1]; rfl)
                  refine t_to293 hp hm (by omega) 1 _ (by omega) ?_
                  refine t_fin1 hp 1 _ (by omega) ?_
                  have eF : spFind m r b T xs τ = (1, cpF (rgS (b0 τ) i ((corL (xs i)).2 q) i ((corL (xs i)).2 q)) 1) := by
                    unfold spFind; rw [if_neg hsm, ef1]
                    simp only [h1, Option.getD_some]
                  exact TQi.q eF ((((hqs2.b 70 _ (by decide)).b 71 _ (by decide)).rgS i _ i _).cpF 1)
              · refine e_iconst 0 dX4_errata_191 rfl ?_
                refine e_istore dX4_errata_192 (ls_s (ls_s (ls_s (ls_s (ls_1 rfl))))) (Nat.le_of_ble_eq_true rfl) ?_
                refine e_iconst 0 dX4_errata_194 rfl ?_
                refine e_istore dX4_errata_195 (ls_s (ls_s (ls_s (ls_s (ls_s (ls_1 rfl)))))) (Nat.le_of_ble_eq_true rfl) ?_
                refine e_iload dX4_errata_197 rfl ?_
                refine e_iload_n dX4_errata_199 2 rfl rfl ?_
                refine e_icmp_geN 0 m 232 (by omega) (by omega) dX4_errata_200 (by decide) (fun h200 => ?_) (fun h200 => ?_)
                · exact absurd h200 (by omega)
                · refine e_iload dX4_errata_203 rfl ?_
                  refine e_if_ge_t 232 (by decide) dX4_errata_205 (by decide) ?_
                  refine e_iconst 0 dX4_errata_232 rfl ?_
                  refine e_istore dX4_errata_233 (ls_s (ls_s (ls_s (ls_s (ls_s (ls_1 rfl)))))) (Nat.le_of_ble_eq_true rfl) ?_
                  refine e_iload dX4_errata_235 rfl ?_
                  refine e_iload_n dX4_errata_237 2 rfl rfl ?_
                  refine e_icmp_geN 0 m 293 (by omega) (by omega) dX4_errata_238 (by decide) (fun h238 => ?_) (fun h238 => ?_)
                  · exact absurd h238 (by omega)
                  · refine e_iload dX4_errata_241 rfl ?_
                    refine e_if_ge_t 293 (by decide) dX4_errata_243 (by decide) ?_
                    refine e_forget (i := 6) (ln_s (ln_s (ln_s (ln_s (ln_s (ln_s ln_0)))))) ?_
                    refine t_fin0 hp 1 _ (by omega) ?_
                    have eF : spFind m r b T xs τ = (0, cpF (b0 τ) 0) := by
                      unfold spFind; rw [if_pos (bI_t h188)]
                    exact TQi.q eF (((hqs2.b 70 _ (by decide)).b 71 _ (by decide)).cpF 0)
            · refine e_aload_n dX4_errata_83 0 rfl rfl rfl ?_
              refine e_iconst 4 dX4_errata_84 rfl ?_
              refine e_callV1 (As := [.int 4]) (rest := []) dX4_errata_85 rfl mvX4_252 (tw_o hp) rfl (t_refuse hp 4) (Nat.le_of_ble_eq_true rfl) rfl rfl (Nat.le_of_ble_eq_true rfl) (Nat.zero_le _) (Nat.zero_le _) ?_
              refine e_ireturn dX4_errata_88 rfl rfl (Nat.zero_le _) (Nat.zero_le _) ?_
              refine TQi.of ?_
              rw [sp_errata, if_neg h18', if_neg (fun z => z hsp), ix_nI (show y < 2147483648 by omega), eq0, if_pos ((nI_ltN (by omega) (by omega)).mpr (by omega))]
              rfl
          · refine e_if_ne_f (by decide) 73 dX4_errata_64 (by decide) ?_
            refine e_aload_n dX4_errata_67 0 rfl rfl rfl ?_
            refine e_iconst 5 dX4_errata_68 rfl ?_
            refine e_callV1 (As := [.int 5]) (rest := []) dX4_errata_69 rfl mvX4_252 (tw_o hp) rfl (t_refuse hp 5) (Nat.le_of_ble_eq_true rfl) rfl rfl (Nat.le_of_ble_eq_true rfl) (Nat.zero_le _) (Nat.zero_le _) ?_
            refine e_ireturn dX4_errata_72 rfl rfl (Nat.zero_le _) (Nat.zero_le _) ?_
            refine TQi.of ?_
            rw [sp_errata, if_neg h18', if_pos (fun z => h61 z.2.2)]
            rfl
      · refine e_if_eq_t 67 (by decide) dX4_errata_46 (by decide) ?_
        refine e_aload_n dX4_errata_67 0 rfl rfl rfl ?_
        refine e_iconst 5 dX4_errata_68 rfl ?_
        refine e_callV1 (As := [.int 5]) (rest := []) dX4_errata_69 rfl mvX4_252 (tw_o hp) rfl (t_refuse hp 5) (Nat.le_of_ble_eq_true rfl) rfl rfl (Nat.le_of_ble_eq_true rfl) (Nat.zero_le _) (Nat.zero_le _) ?_
        refine e_ireturn dX4_errata_72 rfl rfl (Nat.zero_le _) (Nat.zero_le _) ?_
        refine TQi.of ?_
        rw [sp_errata, if_neg h18', if_pos (fun z => h43 z.1.2)]
        rfl
    · refine e_if_eq_t 67 (by decide) dX4_errata_34 (by decide) ?_
      refine e_aload_n dX4_errata_67 0 rfl rfl rfl ?_
      refine e_iconst 5 dX4_errata_68 rfl ?_
      refine e_callV1 (As := [.int 5]) (rest := []) dX4_errata_69 rfl mvX4_252 (tw_o hp) rfl (t_refuse hp 5) (Nat.le_of_ble_eq_true rfl) rfl rfl (Nat.le_of_ble_eq_true rfl) (Nat.zero_le _) (Nat.zero_le _) ?_
      refine e_ireturn dX4_errata_72 rfl rfl (Nat.zero_le _) (Nat.zero_le _) ?_
      refine TQi.of ?_
      rw [sp_errata, if_neg h18', if_pos (fun z => h31 z.1.1)]
      rfl
  · refine e_iconst (-1) dX4_errata_21 rfl ?_
    refine e_ireturn dX4_errata_22 rfl rfl (Nat.zero_le _) (Nat.zero_le _) ?_
    refine TQi.of ?_
    rw [sp_errata, if_pos (Int32.not_le.mp h18)]
    rfl

