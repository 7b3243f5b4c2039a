/-! ===== the component: turn ===== -/
set_option maxHeartbeats 4000000 in
set_option maxRecDepth 100000 in
/-- a loop of turn -/
theorem x_turn_loop {ξ : Xs} {mid dyn : List ACell} {τ : Tw} (hm : mid.length = 61) {j b q : Nat} {η : En} (hO : EngOk τ j) (hMs : MisOk τ j) (hH : HlD dyn b (enB (117 + b) η)) (hn : EnR η τ j) (hq : q ≤ 1000) {Q : Qfun} : ∀ (fuel : Nat) (k : Nat) (η' : En), k ≤ q → q < k + fuel → Sme η' (nT η (nI (gU τ j + k))) → EfM η' (gA τ j) (gW τ j) (trnN (gA τ j) (gW τ j) (gR τ j) (fun t => mhN τ j (nI t) false) (gU τ j) (gF τ j) k) → (∀ η' : En, Sme η' (nT η (nI (gU τ j + q))) → EfM η' (gA τ j) (gW τ j) (trnN (gA τ j) (gW τ j) (gR τ j) (fun t => mhN τ j (nI t) false) (gU τ j) (gF τ j) q) → E cX0_turn (RX0, (some .int), 5, 4, (0, 0), false, []) Q noX 0 0 77 [some (.ref 0), some (.int (nI j)), some (.int (nI q)), some (.ref (117 + b)), none] [] (XM ξ mid (rpB dyn b (enB (117 + b) η')))) →
    E cX0_turn (RX0, (some .int), 5, 4, (0, 0), false, []) Q noX 0 0 61 [some (.ref 0), some (.int (nI j)), some (.int (nI q)), some (.ref (117 + b)), some (.int (nI k))] [] (XM ξ mid (rpB dyn b (enB (117 + b) η'))) := by
  intro fuel
  induction fuel with
  | zero => intro k η' hk hf hS hF hE; exact absurd hf (by omega)
  | succ fuel ih =>
    intro k η' hk hf hS hF hE
    have hle : b + (enB (117 + b) η').length ≤ dyn.length := by
      have := hH.le (enB_pos _ _)
      rw [enB_len] at this ⊢
      rw [hS.1]; exact this
    have hH' := rpB_Hl hle
    have hJ' : EnJ η' (gA τ j) (gW τ j) (gM τ j) (gR τ j) := hS.J (hn.J hO)
    have hM' : EnM η' (gA τ j) (gW τ j) (gM τ j) := (hn.M hMs).cg hS.2.2.2.2.1
    have hr : Rds (gW τ j) (gR τ j) := fun i hi => ⟨(hO.2.2.2.2.1 i hi).1, (hO.2.2.2.2.1 i hi).2.1⟩
    have hW12 := hJ'.2.2.2.1
    have hcn' : ∀ x w c, cE η' (η'.2.2.1 + 1) x w c (gM τ j) = mhN τ j (nI (gU τ j + k + 1)) false x w c := fun x w c => by
      rw [cE_cg (η := η) hS.2.2.2.2.1, hS.2.2.1, hn.c]
      show mhN τ j (nI (gU τ j + k) + 1) false x w c = _
      rw [show nI (gU τ j + k) + 1 = nI (gU τ j + k + 1) from nI_add _ 1]
    refine e_iload dX0_turn_61 rfl ?_
    refine e_iload_n dX0_turn_63 2 rfl rfl ?_
    refine e_icmp_geN k q 77 (by omega) (by omega) dX0_turn_64 (by decide) (fun h64 => ?_) (fun h64 => ?_)
    · refine e_forget (i := 4) (ln_s (ln_s (ln_s (ln_s ln_0)))) ?_
      obtain rfl : k = q := by omega
      exact hE η' hS hF
    · refine e_aload_n dX0_turn_67 3 rfl rfl rfl ?_
      refine e_callVQ (As := []) (rest := []) dX0_turn_68 rfl mvX0_265 (xh_o hm hH') rfl (x_turnsX hm hH' hJ' hcn' hr (trnN_ok hW12.1 hr hO.B k) hF hM') (Nat.le_of_ble_eq_true rfl) rfl rfl (Nat.le_of_ble_eq_true rfl) (Nat.zero_le _) (Nat.zero_le _) (fun v0 M0 h0_ _ => ?_)
      obtain ⟨rfl, η1, rfl, hS1, hF1⟩ := h0_
      refine e_incN k (k + 1) (inc1 _) dX0_turn_71 rfl (ls_s (ls_s (ls_s (ls_1 rfl)))) (Nat.le_of_ble_eq_true rfl) ?_
      refine e_goto 61 dX0_turn_74 (by decide) ?_
      rw [rpB_rpB hle (by rw [enB_len, enB_len, hS1.1]; rfl)]
      refine ih (k + 1) η1 (by omega) (by omega) ?_ ?_ hE
      · refine ⟨hS1.1.trans hS.1, hS1.2.1.trans hS.2.1, ?_, hS1.2.2.2.1.trans hS.2.2.2.1, hS1.2.2.2.2.1.trans hS.2.2.2.2.1, hS1.2.2.2.2.2.trans hS.2.2.2.2.2⟩
        refine hS1.2.2.1.trans ?_
        show η'.2.2.1 + 1 = nI (gU τ j + (k + 1))
        rw [hS.2.2.1]
        exact nI_add _ 1
      · exact hF1

set_option maxHeartbeats 4000000 in
set_option maxRecDepth 100000 in
/-- WheelTables.turn -/
theorem x_turn {ξ : Xs} {mid dyn : List ACell} {τ : Tw} {own : Nat → Nat} (hm : mid.length = 61) (hRel : Rel own ξ dyn τ) (e n : Int32) : Ct yX0_turn (ws_ yX0_turn cX0_turn 5 (some .int)) 4 0 0 [.ref 0, .int e, .int n] (XM ξ mid dyn) (XQi mid (sp_turn e n τ)) noX := by
  obtain ⟨hI, hA, hB, hW, hP, hR, hT, hE, hC, hV⟩ := id hRel
  have hI4 := hE.1.1
  refine Ct.of (ini := false) (ls := [some (.ref 0), some (.int e), some (.int n), none, none]) (by decide) (Nat.le_of_ble_eq_true rfl) (fun h => by cases h) rfl ?_
  refine e_aload_n dX0_turn_0 0 rfl rfl rfl ?_
  refine e_iload_n dX0_turn_1 1 rfl rfl ?_
  refine e_callVB (As := [.int e]) (rest := []) dX0_turn_2 rfl mvX0_196 (xm_o0) rfl (x_isEngine hm hRel e) (Nat.le_of_ble_eq_true rfl) rfl rfl (Nat.le_of_ble_eq_true rfl) (Nat.zero_le _) (Nat.zero_le _) (fun h2 => ?_) (fun h2 => ?_)
  · have h2 : (IsE e τ) := h2
    refine e_if_ne_t 14 (by decide) dX0_turn_5 (by decide) ?_
    obtain ⟨j, hj, hj4, rfl⟩ := eng_of hE.1 h2
    obtain ⟨hO, hMs⟩ := hE.1.2.2.1 j hj
    obtain ⟨b, η, hRe, hH, hown, hn⟩ := hE.2 j hj
    obtain ⟨hA, hW, hA7, hW12, hm20, eM, hRd⟩ := id (hn.J hO)
    have eA := hO.1.2.2
    have eW := hO.2.1.2.2
    refine e_iload_n dX0_turn_14 2 rfl rfl ?_
    refine e_iconst 1 dX0_turn_15 rfl ?_
    refine e_icmp_lt 26 dX0_turn_16 (by decide) (fun h16 => ?_) (fun h16 => ?_)
    · refine e_aload_n dX0_turn_26 0 rfl rfl rfl ?_
      refine e_iconst 5 dX0_turn_27 rfl ?_
      refine e_callV1 (As := [.int 5]) (rest := []) dX0_turn_28 rfl mvX0_169 (xm_o0) rfl (x_none 5) (Nat.le_of_ble_eq_true rfl) rfl rfl (Nat.le_of_ble_eq_true rfl) (Nat.zero_le _) (Nat.zero_le _) ?_
      refine e_ireturn dX0_turn_31 rfl rfl (Nat.zero_le _) (Nat.zero_le _) ?_
      refine ⟨_, _, own, rfl, ?_, ?_⟩
      · rw [sp_turn, if_neg (fun z => z h2), if_pos (fun z => i32_lt h16 z.1)]
      · rw [sp_turn, if_neg (fun z => z h2), if_pos (fun z => i32_lt h16 z.1)]; exact hRel.stE 5
    · refine e_iload_n dX0_turn_19 2 rfl rfl ?_
      refine e_sipush 200 dX0_turn_20 rfl ?_
      refine e_icmp_le 32 dX0_turn_23 (by decide) (fun h23 => ?_) (fun h23 => ?_)
      · have g1 := And.intro (i32_nlt h16) h23
        obtain ⟨q, hq, rfl⟩ := in_le (x := n) 200 (by decide) (fun z => absurd (show n < 1 from Int32.lt_trans z (by decide)) h16) h23
        have hU := hO.2.2.1.1
        refine e_aload_n dX0_turn_32 0 rfl rfl rfl ?_
        refine e_getf (v := (.ref 2)) dX0_turn_33 rfl fX0_17 (xm_o0) rfl ?_
        refine e_iload_n dX0_turn_36 1 rfl rfl ?_
        refine e_aald (f := ξ.2.2.2.2.1 1) (j := j) dX0_turn_37 xm_r2 (fun _ => rfl) rfl (by omega) (by decide) ?_
        refine e_top (congrArg rfO hRe) ?_
        refine e_astore_n dX0_turn_38 3 rfl (ls_s (ls_s (ls_1 rfl))) (Nat.le_of_ble_eq_true rfl) rfl ?_
        refine e_aload_n dX0_turn_39 3 rfl rfl rfl ?_
        refine e_getf (v := (.int η.2.2.1)) dX0_turn_40 rfl fX0_255 (xh_o hm hH) rfl ?_
        refine e_top (congrArg Value.int (hn.2.2.1.trans hO.2.2.1.2)) ?_
        refine e_iload_n dX0_turn_43 2 rfl rfl ?_
        refine e_iaddN (gU τ j) q dX0_turn_44 ?_
        refine e_sipush 1000 dX0_turn_45 rfl ?_
        refine e_icmp_leN ((gU τ j) + q) 1000 58 (by omega) (by omega) dX0_turn_48 (by decide) (fun h48 => ?_) (fun h48 => ?_)
        · refine e_iconst 0 dX0_turn_58 rfl ?_
          refine e_istore dX0_turn_59 (ls_s (ls_s (ls_s (ls_1 rfl)))) (Nat.le_of_ble_eq_true rfl) ?_
          refine E_mem (show XM ξ mid (rpB dyn b (enB (117 + b) η)) = XM ξ mid dyn by rw [← hH.spl (enB_pos _ _)]) ?_
          refine x_turn_loop hm hO hMs hH hn (by omega) (q + 1) 0 η (by omega) (by omega) ⟨rfl, rfl, hn.2.2.1.trans hO.2.2.1.2, rfl, rfl, rfl⟩ (hn.F hO) (fun η' hS2 hF2 => ?_)
          have hH2 : HlD (rpB dyn b (enB (117 + b) η')) b (enB (117 + b) η') := rpB_Hl (by have := hH.le (enB_pos _ _); rw [enB_len] at this ⊢; rw [hS2.1]; exact this)
          refine e_aload_n dX0_turn_77 0 rfl rfl rfl ?_
          refine e_aload_n dX0_turn_78 3 rfl rfl rfl ?_
          refine e_getf (v := (.int η'.2.2.1)) dX0_turn_79 rfl fX0_255 (xh_o hm hH2) rfl ?_
          refine e_top (congrArg Value.int hS2.2.2.1) ?_
          refine e_callV1 (As := [.int (nI (gU τ j + q))]) (rest := []) dX0_turn_82 rfl mvX0_215 (xm_o0) rfl (x_gives (nI (gU τ j + q))) (Nat.le_of_ble_eq_true rfl) rfl rfl (Nat.le_of_ble_eq_true rfl) (Nat.zero_le _) (Nat.zero_le _) ?_
          refine e_ireturn dX0_turn_85 rfl rfl (Nat.zero_le _) (Nat.zero_le _) ?_
          have e8 : τ.2.2.1 8 (ix (nI j)) + nI q = nI (gU τ j + q) := by rw [ix_nI (by omega), hO.2.2.1.2]; exact nI_add _ _
          have hr : Rds (gW τ j) (gR τ j) := fun i hi => ⟨(hO.2.2.2.2.1 i hi).1, (hO.2.2.2.2.1 i hi).2.1⟩
          refine ⟨_, _, own, rfl, ?_, ?_⟩
          · rw [sp_turn, if_neg (fun z => z h2), if_neg (fun z => z g1), if_neg (by rw [e8]; exact fun z => absurd ((nI_ltN (a := 1000) (by omega) (by omega)).mp z) (by omega)), e8]
          · rw [sp_turn, if_neg (fun z => z h2), if_neg (fun z => z g1), if_neg (by rw [e8]; exact fun z => absurd ((nI_ltN (a := 1000) (by omega) (by omega)).mp z) (by omega)), ix_nI (by omega), ix_nI (by omega)]
            have u8 : ∀ k, (tA (tA (b0 τ) 8 (upd (τ.2.2.1 8) j (τ.2.2.1 8 j + nI q))) 10 (fgUp (τ.2.2.1 10) j (gA τ j) (gW τ j) (spTrn j q τ))).2.2.1 8 k = upd (τ.2.2.1 8) j (τ.2.2.1 8 j + nI q) k := fun _ => rfl
            have u10 : ∀ k, (tA (tA (b0 τ) 8 (upd (τ.2.2.1 8) j (τ.2.2.1 8 j + nI q))) 10 (fgUp (τ.2.2.1 10) j (gA τ j) (gW τ j) (spTrn j q τ))).2.2.1 10 k = fgUp (τ.2.2.1 10) j (gA τ j) (gW τ j) (spTrn j q τ) k := fun _ => rfl
            exact hRel.st0.eng (τ' := (tA (tA (b0 τ) 8 (upd (τ.2.2.1 8) j (τ.2.2.1 8 j + nI q))) 10 (fgUp (τ.2.2.1 10) j (gA τ j) (gW τ j) (spTrn j q τ)))) (u := gU τ j + q) (m := gM τ j) (F := spTrn j q τ) hj hRe hH hown hn hS2.1 hS2.2.1 hS2.2.2.2.2.2 rfl (fun k hk => (va_out (L := [8, 10, 12, 13, 14, 15, 16]) (by decide) k hk).trans ((va_out (L := [8, 10, 12, 13, 14, 15, 16]) (by decide) k hk).trans (rfl))) rfl (fun e he hne => ⟨⟨rfl, rfl, (u8 _).trans (pk_un hne), rfl⟩, fun _ _ => rfl, fun q hq => (u10 _).trans (by unfold fgUp; rw [if_neg (by omega)]; rfl), fun _ _ => ⟨rfl, rfl, rfl, rfl⟩⟩)
              (by omega) hS2.2.2.1 ((u8 j).trans (pk_us.trans (by rw [hO.2.2.1.2]; exact nI_add _ _))) hm20 (hS2.2.2.2.1.trans eM) hO.2.2.2.1.2 (fun q hq => by rw [hS2.2.2.2.2.1]; exact hn.2.2.2.2.1 q hq) hMs (trnN_ok hW12.1 hr hO.B q) hF2 (fun a ha i hi => (u10 _).trans (fgUp_at hA7.2 hW12.2 ha hi))
        · refine e_aload_n dX0_turn_51 0 rfl rfl rfl ?_
          refine e_bipush 9 dX0_turn_52 rfl ?_
          refine e_callV1 (As := [.int 9]) (rest := []) dX0_turn_54 rfl mvX0_169 (xm_o0) rfl (x_none 9) (Nat.le_of_ble_eq_true rfl) rfl rfl (Nat.le_of_ble_eq_true rfl) (Nat.zero_le _) (Nat.zero_le _) ?_
          refine e_ireturn dX0_turn_57 rfl rfl (Nat.zero_le _) (Nat.zero_le _) ?_
          have e8 : τ.2.2.1 8 (ix (nI j)) + nI q = nI (gU τ j + q) := by rw [ix_nI (by omega), hO.2.2.1.2]; exact nI_add _ _
          refine ⟨_, _, own, rfl, ?_, ?_⟩
          · rw [sp_turn, if_neg (fun z => z h2), if_neg (fun z => z g1), if_pos (by rw [e8]; exact (nI_ltN (a := 1000) (by omega) (by omega)).mpr (by omega))]
          · rw [sp_turn, if_neg (fun z => z h2), if_neg (fun z => z g1), if_pos (by rw [e8]; exact (nI_ltN (a := 1000) (by omega) (by omega)).mpr (by omega))]; exact hRel.stE 9
      · refine e_aload_n dX0_turn_26 0 rfl rfl rfl ?_
        refine e_iconst 5 dX0_turn_27 rfl ?_
        refine e_callV1 (As := [.int 5]) (rest := []) dX0_turn_28 rfl mvX0_169 (xm_o0) rfl (x_none 5) (Nat.le_of_ble_eq_true rfl) rfl rfl (Nat.le_of_ble_eq_true rfl) (Nat.zero_le _) (Nat.zero_le _) ?_
        refine e_ireturn dX0_turn_31 rfl rfl (Nat.zero_le _) (Nat.zero_le _) ?_
        refine ⟨_, _, own, rfl, ?_, ?_⟩
        · rw [sp_turn, if_neg (fun z => z h2), if_pos (fun z => h23 z.2)]
        · rw [sp_turn, if_neg (fun z => z h2), if_pos (fun z => h23 z.2)]; exact hRel.stE 5
  · have h2 : ¬ (IsE e τ) := h2
    refine e_if_ne_f (by decide) 14 dX0_turn_5 (by decide) ?_
    refine e_aload_n dX0_turn_8 0 rfl rfl rfl ?_
    refine e_iconst 2 dX0_turn_9 rfl ?_
    refine e_callV1 (As := [.int 2]) (rest := []) dX0_turn_10 rfl mvX0_169 (xm_o0) rfl (x_none 2) (Nat.le_of_ble_eq_true rfl) rfl rfl (Nat.le_of_ble_eq_true rfl) (Nat.zero_le _) (Nat.zero_le _) ?_
    refine e_ireturn dX0_turn_13 rfl rfl (Nat.zero_le _) (Nat.zero_le _) ?_
    refine ⟨_, _, own, rfl, ?_, ?_⟩
    · rw [sp_turn, if_pos h2]
    · rw [sp_turn, if_pos h2]; exact hRel.stE 2

