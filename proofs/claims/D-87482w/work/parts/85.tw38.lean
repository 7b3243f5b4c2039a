/-! ===== the twin: finer ===== -/
theorem un_ne : ∀ m, m < 21 → ∀ k, k < 5 → 2 ≤ m → ¬ unL m k = 0 ∧ ¬ 2 * unL m k = 0 := by decide +kernel
theorem atP_cg {st st' : Nat → Int64} {k m i : Nat} (h : ∀ q, q ≤ k → st q = st' q) : ∀ n, n ≤ k + 1 → atP st k m i n = atP st' k m i n
  | 0, _ => rfl
  | n + 1, hn => by rw [atP, atP, atP_cg h n (by omega), h n (by omega)]
theorem enN_cg {st st' : Nat → Int64} {k m r : Nat} {u g : Int64} (h : ∀ q, q ≤ k → st q = st' q) : enN st k m r u g = enN st' k m r u g := by
  have e : ∀ i, atN st k m i = atN st' k m i := fun i => by unfold atN; rw [atP_cg h (k + 1) (Nat.le_refl _)]
  have e2 : (fun i => atN st k m i) = (fun i => atN st' k m i) := funext e
  have e3 : ∀ v, enP st k m u g v = enP st' k m u g v := fun v => by funext t; unfold enP; rw [e t]
  unfold enN
  rw [e2, e3]
abbrev spFin (k m r : Int32) : Prop := (1 ≤ k ∧ k ≤ 4) ∧ (2 ≤ m ∧ m ≤ 20) ∧ (1 ≤ r ∧ r ≤ 60)
def spSt (t k : Nat) (ς : Tw) : Nat → Int64 := dfL (k + 1) (fun q => ς.2.2.2 4 (60 * t + q)) k
def sp_finer (t k m r : Int32) (ς : Tw) : Int32 × Tw :=
  if 0 < spT t ς then (-1, tI (b1 ς) 0 (spT t ς)) else if ¬ spFin k m r then (-1, bE ς 5) else if ς.2.2.1 3 (ix t) < k + 1 then (-1, bE ς 4)
  else if ¬ spTen (ix t) (ix k + 1) ς = true then (-1, bE ς 5)
  else match fstN (fun d => enN (spSt (ix t) (ix k) ς) (ix k) (ix m) (ix r) (unL (ix m) (ix k)) (tnL d)) 7 0 with
    | some d => (nI d, b0 ς)
    | none => (-1, bE ς 8)
set_option maxHeartbeats 4000000 in
set_option maxRecDepth 100000 in
/-- WheelTablesModel.finer -/
theorem t_finer {pre post : List ACell} {τ : Tw} (hp : pre.length = 56) (hT : InvT τ) (t k m r : Int32) : Ct yX4_finer (ws_ yX4_finer cX4_finer 8 (some .int)) 3 0 0 [.ref 56, .int t, .int k, .int m, .int r] (TW pre τ post) (TQi pre post (sp_finer t k m r τ)) noX := by
  refine Ct.of (ini := false) (ls := [some (.ref 56), some (.int t), some (.int k), some (.int m), some (.int r), none, none, none]) (by decide) (Nat.le_of_ble_eq_true rfl) (fun h => by cases h) rfl ?_
  refine e_aload_n dX4_finer_0 0 rfl rfl rfl ?_
  refine e_iconst 0 dX4_finer_1 rfl ?_
  refine e_tputI dX4_finer_2 rfl pX4_212 rfl hp (Nat.le_of_ble_eq_true rfl) (tw_f1 _) ?_
  refine e_aload_n dX4_finer_5 0 rfl rfl rfl ?_
  refine e_aload_n dX4_finer_6 0 rfl rfl rfl ?_
  refine e_iload_n dX4_finer_7 1 rfl rfl ?_
  refine e_callV1 (As := [.int t]) (rest := [.ref 56]) dX4_finer_8 rfl mvX4_222 (tw_o hp) rfl (t_trayed hp (by exact hT) t) (Nat.le_of_ble_eq_true rfl) rfl rfl (Nat.le_of_ble_eq_true rfl) (Nat.zero_le _) (Nat.zero_le _) ?_
  refine e_tputI dX4_finer_11 rfl pX4_215 rfl hp (Nat.le_of_ble_eq_true rfl) (tw_f0 _) ?_
  refine e_aload_n dX4_finer_14 0 rfl rfl rfl ?_
  refine e_getf (v := .int (spT t τ)) dX4_finer_15 rfl fX4_215 (tw_o hp) rfl ?_
  refine e_if_le 23 dX4_finer_18 (by decide) (fun h18 => ?_) (fun h18 => ?_)
  · have h18' := Int32.not_lt.mpr h18
    have z0 := (spT_0 hT h18').1
    rw [show spT t (tI τ 1 0) = 0 from z0]
    refine e_iload_n dX4_finer_23 2 rfl rfl ?_
    refine e_i2l dX4_finer_24 ?_
    refine e_lconst 1 dX4_finer_25 rfl ?_
    refine e_ldc2 rfl q1577 dX4_finer_26 ?_
    refine e_callSB (As := [.long k.toInt64, .long 1, .long 4]) (rest := []) dX4_finer_29 rfl msX4_239 (t_isInI k 1 4 rfl (by decide) (by decide)) (Nat.le_of_ble_eq_true rfl) rfl rfl (Nat.le_of_ble_eq_true rfl) (Nat.zero_le _) (Nat.zero_le _) (fun h29 => ?_) (fun h29 => ?_)
    · refine e_if_eq_f (by decide) 62 dX4_finer_32 (by decide) ?_
      refine e_iload_n dX4_finer_35 3 rfl rfl ?_
      refine e_i2l dX4_finer_36 ?_
      refine e_ldc2 rfl q1466 dX4_finer_37 ?_
      refine e_ldc2 rfl q1578 dX4_finer_40 ?_
      refine e_callSB (As := [.long m.toInt64, .long 2, .long 20]) (rest := []) dX4_finer_43 rfl msX4_239 (t_isInI m 2 20 rfl (by decide) (by decide)) (Nat.le_of_ble_eq_true rfl) rfl rfl (Nat.le_of_ble_eq_true rfl) (Nat.zero_le _) (Nat.zero_le _) (fun h43 => ?_) (fun h43 => ?_)
      · refine e_if_eq_f (by decide) 62 dX4_finer_46 (by decide) ?_
        refine e_iload dX4_finer_49 rfl ?_
        refine e_i2l dX4_finer_51 ?_
        refine e_lconst 1 dX4_finer_52 rfl ?_
        refine e_ldc2 rfl q1556 dX4_finer_53 ?_
        refine e_callSB (As := [.long r.toInt64, .long 1, .long 60]) (rest := []) dX4_finer_56 rfl msX4_239 (t_isInI r 1 60 rfl (by decide) (by decide)) (Nat.le_of_ble_eq_true rfl) rfl rfl (Nat.le_of_ble_eq_true rfl) (Nat.zero_le _) (Nat.zero_le _) (fun h56 => ?_) (fun h56 => ?_)
        · refine e_if_ne_t 68 (by decide) dX4_finer_59 (by decide) ?_
          obtain ⟨-, y, hy, rfl, q0, hq0, eq0⟩ := spT_0 hT h18'
          have hsp : spFin k m r := ⟨h29, h43, h56⟩
          obtain ⟨x, hx, rfl⟩ := in_oc (x := k) (c := 4) 4 (by decide) (Int32.le_trans (by decide) h29.1) h29.2
          obtain ⟨w, hw, rfl⟩ := in_oc (x := m) (c := 20) 20 (by decide) (Int32.le_trans (by decide) h43.1) h43.2
          obtain ⟨z, hz60, rfl⟩ := in_oc (x := r) (c := 60) 60 (by decide) (Int32.le_trans (by decide) h56.1) h56.2
          have hx1 := (nI_leN (a := 1) (b := x) (by omega) (by omega)).mp h29.1
          have hw2 := (nI_leN (a := 2) (b := w) (by omega) (by omega)).mp h43.1
          refine e_aload_n dX4_finer_68 0 rfl rfl rfl ?_
          refine e_getf (v := .ref 58) dX4_finer_69 rfl fX4_13 (tw_o hp) rfl ?_
          refine e_iload_n dX4_finer_72 1 rfl rfl ?_
          refine e_iald (f := τ.2.2.1 3) (j := y) dX4_finer_73 (tw_a3 hp) rfl (by omega) (by decide) ?_
          refine e_top (congrArg Value.int eq0) ?_
          refine e_iload_n dX4_finer_74 2 rfl rfl ?_
          refine e_iconst 1 dX4_finer_75 rfl ?_
          refine e_iaddN x 1 dX4_finer_76 ?_
          refine e_icmp_geN q0 (x + 1) 86 (by omega) (by omega) dX4_finer_77 (by decide) (fun h77 => ?_) (fun h77 => ?_)
          · refine e_iconst 0 dX4_finer_86 rfl ?_
            refine e_istore dX4_finer_87 (ls_s (ls_s (ls_s (ls_s (ls_1 rfl))))) (Nat.le_of_ble_eq_true rfl) ?_
            have hnt : ¬ nI q0 < nI (x + 1) := fun z => absurd ((nI_ltN (by omega) (by omega)).mp z) (by omega)
            refine t_fiA (τ := tI (tI τ 1 0) 0 0) hp hy hx hx1 (x + 2) 0 (by omega) (by omega) rfl (fun z => ?_) (fun hzz => ?_)
            · refine TQi.of ?_
              rw [sp_finer, if_neg h18', if_neg (fun z => z hsp), ix_nI (show y < 2147483648 by omega), eq0, show nI x + 1 = nI (x + 1) from nI_add _ 1, if_neg hnt, ix_nI (show x < 2147483648 by omega), if_pos (show ¬ spTen y (x + 1) τ = true from z)]
              rfl
            have eS : sp_finer (nI y) (nI x) (nI w) (nI z) τ = match fstN (fun d => enN (spSt y x τ) x w z (unL w x) (tnL d)) 7 0 with
                | some d => (nI d, b0 τ)
                | none => (-1, bE τ 8) := by
              rw [sp_finer, if_neg h18', if_neg (fun z => z hsp), ix_nI (show y < 2147483648 by omega), eq0, show nI x + 1 = nI (x + 1) from nI_add _ 1, if_neg hnt, ix_nI (show x < 2147483648 by omega), ix_nI (show w < 2147483648 by omega), ix_nI (show z < 2147483648 by omega), if_neg (fun z => z (show spTen y (x + 1) τ = true from hzz))]
            rw [eS]
            refine e_iconst 0 dX4_finer_126 rfl ?_
            refine e_istore dX4_finer_127 (ls_s (ls_s (ls_s (ls_s (ls_1 rfl))))) (Nat.le_of_ble_eq_true rfl) ?_
            refine E_mem (show TW pre (tB (tI (tI τ 1 0) 0 0) 96 ((tI (tI τ 1 0) 0 0).2.2.2 96)) post = _ by rw [tB_self]) ?_
            refine t_fiB (τ0 := tI (tI τ 1 0) 0 0) hp hy hx hx1 (x + 2) 0 _ (by omega) (by omega) (by rw [rngL_0]) ?_
            refine e_iconst 1 dX4_finer_155 rfl ?_
            refine e_istore dX4_finer_156 (ls_s (ls_s (ls_s (ls_s (ls_1 rfl))))) (Nat.le_of_ble_eq_true rfl) ?_
            refine t_fiC (τ0 := tI (tI τ 1 0) 0 0) (v := (rngL (τ.2.2.2 96) 0 (x + 1) (fun q => τ.2.2.2 4 (60 * y + q)))) hp hy hx hx1 (x + 2) 1 _ (by omega) (by omega) rfl ?_
            refine e_lconst 1 dX4_finer_205 rfl ?_
            refine e_lstore dX4_finer_206 (ls_s (ls_s (ls_s (ls_s (ls_1 rfl))))) (ln_s (ln_s (ln_s (ln_s (ln_s (ln_s ln_0)))))) (Nat.le_of_ble_eq_true rfl) ?_
            refine e_iconst 0 dX4_finer_208 rfl ?_
            refine e_istore dX4_finer_209 (ls_s (ls_s (ls_s (ls_s (ls_s (ls_s (ls_1 rfl))))))) (Nat.le_of_ble_eq_true rfl) ?_
            refine t_fiD hp hy hx hx1 (x + 1) 0 (by omega) (by omega) ?_
            refine e_iconst 0 dX4_finer_236 rfl ?_
            refine e_istore dX4_finer_237 (ls_s (ls_s (ls_s (ls_s (ls_s (ls_s (ls_1 rfl))))))) (Nat.le_of_ble_eq_true rfl) ?_
            have hun := un_ne w (by omega) x (by omega) hw2
            generalize hσ : tB (tI (tI τ 1 0) 0 0) 96 (dfL (x + 1) (rngL (τ.2.2.2 96) 0 (x + 1) (fun q => τ.2.2.2 4 (60 * y + q))) x) = σ
            have hqs : Tq σ (b0 τ) := by rw [← hσ]; exact Tq.rf.b 96 _ (by decide)
            have hst : ∀ q, q ≤ x → σ.2.2.2 96 q = spSt y x τ q := fun q hq => by
              rw [← hσ, tB_at]
              exact dfL_cg (fun i hi => by unfold rngL; rw [if_pos ⟨by omega, by omega⟩, Nat.sub_zero]) x q (by omega)
            refine E_mem (show TW pre (tB σ 26 (σ.2.2.2 26)) post = _ by rw [tB_self]) ?_
            refine t_fiE (τ0 := σ) hp hy hx hx1 hw2 hw hz60 hun.1 hun.2 8 0 _ (by omega) (by omega) (fun q hq => absurd hq (by omega)) (fun d v hd h1 h2 => ?_) (fun h1 v => ?_)
            · have ef : fstN (fun d => enN (spSt y x τ) x w z (unL w x) (tnL d)) 7 0 = some d := fstN_some (p := fun d => enN (spSt y x τ) x w z (unL w x) (tnL d)) (by rw [← enN_cg hst]; exact h1) (Nat.zero_le _) (by omega) (fun q _ hq => by rw [← enN_cg hst]; exact h2 q hq)
              rw [ef]
              exact TQi.q rfl (hqs.b 26 v (by decide))
            · have ef : fstN (fun d => enN (spSt y x τ) x w z (unL w x) (tnL d)) 7 0 = none := fstN_none (p := fun d => enN (spSt y x τ) x w z (unL w x) (tnL d)) (fun q _ hq => by rw [← enN_cg hst]; exact h1 q (by omega))
              rw [ef]
              exact TQi.q rfl ((hqs.b 26 v (by decide)).I 0 8)
          · refine e_aload_n dX4_finer_80 0 rfl rfl rfl ?_
            refine e_iconst 4 dX4_finer_81 rfl ?_
            refine e_callV1 (As := [.int 4]) (rest := []) dX4_finer_82 rfl mvX4_252 (tw_o hp) rfl (t_refuse hp 4) (Nat.le_of_ble_eq_true rfl) rfl rfl (Nat.le_of_ble_eq_true rfl) (Nat.zero_le _) (Nat.zero_le _) ?_
            refine e_ireturn dX4_finer_85 rfl rfl (Nat.zero_le _) (Nat.zero_le _) ?_
            refine TQi.of ?_
            rw [sp_finer, if_neg h18', if_neg (fun z => z hsp), ix_nI (show y < 2147483648 by omega), eq0, show nI x + 1 = nI (x + 1) from nI_add _ 1, if_pos ((nI_ltN (by omega) (by omega)).mpr (by omega))]
            rfl
        · refine e_if_ne_f (by decide) 68 dX4_finer_59 (by decide) ?_
          refine e_aload_n dX4_finer_62 0 rfl rfl rfl ?_
          refine e_iconst 5 dX4_finer_63 rfl ?_
          refine e_callV1 (As := [.int 5]) (rest := []) dX4_finer_64 rfl mvX4_252 (tw_o hp) rfl (t_refuse hp 5) (Nat.le_of_ble_eq_true rfl) rfl rfl (Nat.le_of_ble_eq_true rfl) (Nat.zero_le _) (Nat.zero_le _) ?_
          refine e_ireturn dX4_finer_67 rfl rfl (Nat.zero_le _) (Nat.zero_le _) ?_
          refine TQi.of ?_
          rw [sp_finer, if_neg h18', if_pos (fun z => h56 z.2.2)]
          rfl
      · refine e_if_eq_t 62 (by decide) dX4_finer_46 (by decide) ?_
        refine e_aload_n dX4_finer_62 0 rfl rfl rfl ?_
        refine e_iconst 5 dX4_finer_63 rfl ?_
        refine e_callV1 (As := [.int 5]) (rest := []) dX4_finer_64 rfl mvX4_252 (tw_o hp) rfl (t_refuse hp 5) (Nat.le_of_ble_eq_true rfl) rfl rfl (Nat.le_of_ble_eq_true rfl) (Nat.zero_le _) (Nat.zero_le _) ?_
        refine e_ireturn dX4_finer_67 rfl rfl (Nat.zero_le _) (Nat.zero_le _) ?_
        refine TQi.of ?_
        rw [sp_finer, if_neg h18', if_pos (fun z => h43 z.2.1)]
        rfl
    · refine e_if_eq_t 62 (by decide) dX4_finer_32 (by decide) ?_
      refine e_aload_n dX4_finer_62 0 rfl rfl rfl ?_
      refine e_iconst 5 dX4_finer_63 rfl ?_
      refine e_callV1 (As := [.int 5]) (rest := []) dX4_finer_64 rfl mvX4_252 (tw_o hp) rfl (t_refuse hp 5) (Nat.le_of_ble_eq_true rfl) rfl rfl (Nat.le_of_ble_eq_true rfl) (Nat.zero_le _) (Nat.zero_le _) ?_
      refine e_ireturn dX4_finer_67 rfl rfl (Nat.zero_le _) (Nat.zero_le _) ?_
      refine TQi.of ?_
      rw [sp_finer, if_neg h18', if_pos (fun z => h29 z.1)]
      rfl
  · refine e_iconst (-1) dX4_finer_21 rfl ?_
    refine e_ireturn dX4_finer_22 rfl rfl (Nat.zero_le _) (Nat.zero_le _) ?_
    refine TQi.of ?_
    rw [sp_finer, if_pos (Int32.not_le.mp h18)]
    rfl

