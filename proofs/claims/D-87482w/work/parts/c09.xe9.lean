/-! ===== the component: engines, the face (3): mishap, turn ===== -/
theorem x_emishX {ξ : Xs} {mid dyn : List ACell} (hm : mid.length = 61) {b : Nat} {η : En} (hH : HlD dyn b (enB (117 + b) η)) {m : Nat} {t x w c : Int32} (hm20 : m < 20) (eM : η.2.2.2.1 = nI m) : Ct yX5_mishap (ws_ yX5_mishap cX5_mishap 5 none) 0 0 0 [.ref (117 + b), .int t, .int x, .int w, .int c] (XM ξ mid dyn) (Q1 none (XM ξ mid (rpB dyn b (enB (117 + b) (nM (nK (nK (nK (nK η 0 (upd (η.2.2.2.2.1 0) m t)) 1 (upd (η.2.2.2.2.1 1) m x)) 2 (upd (η.2.2.2.2.1 2) m w)) 3 (upd (η.2.2.2.2.1 3) m c)) (nI (m + 1))))))) noX :=
  xh_ct hm hH (fun pre post hp hN hM => Ct.mono (x_emish hm20 eM) (fun u M h => ⟨h.1, h.2.trans (hN _ rfl)⟩) (fun _ _ _ h => h))
theorem x_turnsX {ξ : Xs} {mid dyn : List ACell} (hm : mid.length = 61) {b : Nat} {η : En} (hH : HlD dyn b (enB (117 + b) η)) {A W m : Nat} {rd : Nat → Nat} {cnt : Nat → Nat → Nat → Nat} {F : Mx} (hJ0 : EnJ η A W m rd) (hcn : ∀ x w k, cE η (η.2.2.1 + 1) x w k m = cnt x w k) (hr : Rds W rd) (hB : Bnd A W rd F) (hF : EfM η A W F) (hM : EnM η A W m) :
    Ct yX5_turns (ws_ yX5_turns cX5_turns 3 none) 3 0 0 [.ref (117 + b)] (XM ξ mid dyn) (fun v M' => v = none ∧ ∃ η', M' = XM ξ mid (rpB dyn b (enB (117 + b) η')) ∧ Sme η' (nT η (η.2.2.1 + 1)) ∧ EfM η' A W (turnN A W rd cnt F)) noX :=
  xh_ct hm hH (fun pre post hp hN _ => Ct.mono (x_turns5 hJ0 hcn hr hB hF hM) (fun u M h => by
    obtain ⟨h0, η', rfl, hS, hF'⟩ := h
    exact ⟨h0, η', hN η' hS.1, hS, hF'⟩) (fun _ _ _ h => h))
set_option maxHeartbeats 4000000 in
set_option maxRecDepth 100000 in
/-- WheelTables.mishap -/
theorem x_mishap {ξ : Xs} {mid dyn : List ACell} {τ : Tw} {own : Nat → Nat} (hm : mid.length = 61) (hRel : Rel own ξ dyn τ) (e t x w k : Int32) : Ct yX0_mishap (ws_ yX0_mishap cX0_mishap 6 (some .boolean)) 2 0 0 [.ref 0, .int e, .int t, .int x, .int w, .int k] (XM ξ mid dyn) (XQi mid (sp_mishap e t x w k τ)) noX := by
  obtain ⟨hI, hA, hB, hW, hP, hR, hT, hE, hC, hV⟩ := id hRel
  have hI4 := hE.1.1
  refine Ct.of (ini := false) (ls := [some (.ref 0), some (.int e), some (.int t), some (.int x), some (.int w), some (.int k)]) (by decide) (Nat.le_of_ble_eq_true rfl) (fun h => by cases h) rfl ?_
  refine e_aload_n dX0_mishap_0 0 rfl rfl rfl ?_
  refine e_iload_n dX0_mishap_1 1 rfl rfl ?_
  refine e_iload_n dX0_mishap_2 3 rfl rfl ?_
  refine e_iload dX0_mishap_3 rfl ?_
  refine e_callVB (As := [.int e, .int x, .int w]) (rest := []) dX0_mishap_5 rfl mvX0_218 (xm_o0) rfl (x_isWheel hm hRel e x w) (Nat.le_of_ble_eq_true rfl) rfl rfl (Nat.le_of_ble_eq_true rfl) (Nat.zero_le _) (Nat.zero_le _) (fun h5 => ?_) (fun h5 => ?_)
  · have h5 : (IsWh e x w τ) := h5
    refine e_if_eq_f (by decide) 26 dX0_mishap_8 (by decide) ?_
    obtain ⟨j, a, i, hj, hj4, rfl, ha, rfl, hi, rfl⟩ := wheel_of hE.1 h5
    obtain ⟨hO, hMs⟩ := hE.1.2.2.1 j hj
    obtain ⟨b, η, hRe, hH, hown, hn⟩ := hE.2 j hj
    obtain ⟨hA, hW, hA7, hW12, hm20, eM, hRd⟩ := id (hn.J hO)
    have eA := hO.1.2.2
    have eW := hO.2.1.2.2
    refine e_iload_n dX0_mishap_11 3 rfl rfl ?_
    refine e_aload_n dX0_mishap_12 0 rfl rfl rfl ?_
    refine e_getf (v := (.ref 2)) dX0_mishap_13 rfl fX0_17 (xm_o0) rfl ?_
    refine e_iload_n dX0_mishap_16 1 rfl rfl ?_
    refine e_aald (f := ξ.2.2.2.2.1 1) (j := j) dX0_mishap_17 xm_r2 (fun _ => rfl) rfl (by omega) (by decide) ?_
    refine e_top (congrArg rfO hRe) ?_
    refine e_getf (v := (.int (nI η.1))) dX0_mishap_18 rfl fX0_199 (xh_o hm hH) rfl ?_
    refine e_top (congrArg (fun z => Value.int (nI z)) hA) ?_
    refine e_iconst 1 dX0_mishap_21 rfl ?_
    refine e_isubN (gA τ j) 1 (by omega) dX0_mishap_22 ?_
    refine e_icmp_neN a ((gA τ j) - 1) 32 (by omega) (by omega) dX0_mishap_23 (by decide) (fun h23 => ?_) (fun h23 => ?_)
    · refine e_iload_n dX0_mishap_32 2 rfl rfl ?_
      refine e_iconst 1 dX0_mishap_33 rfl ?_
      refine e_icmp_lt 55 dX0_mishap_34 (by decide) (fun h34 => ?_) (fun h34 => ?_)
      · refine e_aload_n dX0_mishap_55 0 rfl rfl rfl ?_
        refine e_iconst 5 dX0_mishap_56 rfl ?_
        refine e_callV1 (As := [.int 5]) (rest := []) dX0_mishap_57 rfl mvX0_152 (xm_o0) rfl (x_isN (w := 5) (by decide)) (Nat.le_of_ble_eq_true rfl) rfl rfl (Nat.le_of_ble_eq_true rfl) (Nat.zero_le _) (Nat.zero_le _) ?_
        refine e_ireturn dX0_mishap_60 rfl rfl (Nat.zero_le _) (Nat.zero_le _) ?_
        have gl : (nI a = τ.2.2.1 6 (ix (nI j)) - 1) = (a = gA τ j - 1) := by rw [ix_nI (by omega), eA, show nI (gA τ j) - 1 = nI (gA τ j - 1) from pk_sub (b := 1) (by omega)]; exact propext (nI_eqN (by omega) (by omega))
        have g0 : IsWh (nI j) (nI a) (nI i) τ ∧ nI a ≠ τ.2.2.1 6 (ix (nI j)) - 1 := ⟨h5, fun z => h23 (by rw [gl] at z; exact z)⟩
        refine ⟨_, _, own, rfl, ?_, ?_⟩
        · rw [sp_mishap, if_neg (fun z => z g0), if_pos (fun z => i32_lt h34 z.1.1)]
        · rw [sp_mishap, if_neg (fun z => z g0), if_pos (fun z => i32_lt h34 z.1.1)]; exact hRel.stE 5
      · refine e_iload_n dX0_mishap_37 2 rfl rfl ?_
        refine e_sipush 1000 dX0_mishap_38 rfl ?_
        refine e_icmp_gt 55 dX0_mishap_41 (by decide) (fun h41 => ?_) (fun h41 => ?_)
        · refine e_aload_n dX0_mishap_55 0 rfl rfl rfl ?_
          refine e_iconst 5 dX0_mishap_56 rfl ?_
          refine e_callV1 (As := [.int 5]) (rest := []) dX0_mishap_57 rfl mvX0_152 (xm_o0) rfl (x_isN (w := 5) (by decide)) (Nat.le_of_ble_eq_true rfl) rfl rfl (Nat.le_of_ble_eq_true rfl) (Nat.zero_le _) (Nat.zero_le _) ?_
          refine e_ireturn dX0_mishap_60 rfl rfl (Nat.zero_le _) (Nat.zero_le _) ?_
          have gl : (nI a = τ.2.2.1 6 (ix (nI j)) - 1) = (a = gA τ j - 1) := by rw [ix_nI (by omega), eA, show nI (gA τ j) - 1 = nI (gA τ j - 1) from pk_sub (b := 1) (by omega)]; exact propext (nI_eqN (by omega) (by omega))
          have g0 : IsWh (nI j) (nI a) (nI i) τ ∧ nI a ≠ τ.2.2.1 6 (ix (nI j)) - 1 := ⟨h5, fun z => h23 (by rw [gl] at z; exact z)⟩
          refine ⟨_, _, own, rfl, ?_, ?_⟩
          · rw [sp_mishap, if_neg (fun z => z g0), if_pos (fun z => absurd z.1.2 (Int32.not_le.mpr h41))]
          · rw [sp_mishap, if_neg (fun z => z g0), if_pos (fun z => absurd z.1.2 (Int32.not_le.mpr h41))]; exact hRel.stE 5
        · refine e_iload dX0_mishap_44 rfl ?_
          refine e_if_lt 55 dX0_mishap_46 (by decide) (fun h46 => ?_) (fun h46 => ?_)
          · refine e_aload_n dX0_mishap_55 0 rfl rfl rfl ?_
            refine e_iconst 5 dX0_mishap_56 rfl ?_
            refine e_callV1 (As := [.int 5]) (rest := []) dX0_mishap_57 rfl mvX0_152 (xm_o0) rfl (x_isN (w := 5) (by decide)) (Nat.le_of_ble_eq_true rfl) rfl rfl (Nat.le_of_ble_eq_true rfl) (Nat.zero_le _) (Nat.zero_le _) ?_
            refine e_ireturn dX0_mishap_60 rfl rfl (Nat.zero_le _) (Nat.zero_le _) ?_
            have gl : (nI a = τ.2.2.1 6 (ix (nI j)) - 1) = (a = gA τ j - 1) := by rw [ix_nI (by omega), eA, show nI (gA τ j) - 1 = nI (gA τ j - 1) from pk_sub (b := 1) (by omega)]; exact propext (nI_eqN (by omega) (by omega))
            have g0 : IsWh (nI j) (nI a) (nI i) τ ∧ nI a ≠ τ.2.2.1 6 (ix (nI j)) - 1 := ⟨h5, fun z => h23 (by rw [gl] at z; exact z)⟩
            refine ⟨_, _, own, rfl, ?_, ?_⟩
            · rw [sp_mishap, if_neg (fun z => z g0), if_pos (fun z => i32_lt h46 z.2.1)]
            · rw [sp_mishap, if_neg (fun z => z g0), if_pos (fun z => i32_lt h46 z.2.1)]; exact hRel.stE 5
          · refine e_iload dX0_mishap_49 rfl ?_
            refine e_iconst 2 dX0_mishap_51 rfl ?_
            refine e_icmp_le 61 dX0_mishap_52 (by decide) (fun h52 => ?_) (fun h52 => ?_)
            · refine e_aload_n dX0_mishap_61 0 rfl rfl rfl ?_
              refine e_getf (v := (.ref 2)) dX0_mishap_62 rfl fX0_17 (xm_o0) rfl ?_
              refine e_iload_n dX0_mishap_65 1 rfl rfl ?_
              refine e_aald (f := ξ.2.2.2.2.1 1) (j := j) dX0_mishap_66 xm_r2 (fun _ => rfl) rfl (by omega) (by decide) ?_
              refine e_top (congrArg rfO hRe) ?_
              refine e_getf (v := (.int η.2.2.2.1)) dX0_mishap_67 rfl fX0_258 (xh_o hm hH) rfl ?_
              refine e_top (congrArg Value.int eM) ?_
              refine e_bipush 20 dX0_mishap_70 rfl ?_
              refine e_icmp_neN (gM τ j) 20 82 (by omega) (by omega) dX0_mishap_72 (by decide) (fun h72 => ?_) (fun h72 => ?_)
              · have hm20l : gM τ j < 20 := by omega
                obtain ⟨tn, htn, rfl⟩ := in_le (x := t) 1000 (by decide) (fun z => absurd (show t < 1 from Int32.lt_trans z (by decide)) h34) (i32_nlt h41)
                obtain ⟨kn, hkn, rfl⟩ := in_le (x := k) 2 (by decide) h46 h52
                have h1t : 1 ≤ tn := by
                  have := Int32.not_lt.mp h34
                  exact (nI_leN (a := 1) (by omega) (by omega)).mp this
                refine e_aload_n dX0_mishap_82 0 rfl rfl rfl ?_
                refine e_getf (v := (.ref 2)) dX0_mishap_83 rfl fX0_17 (xm_o0) rfl ?_
                refine e_iload_n dX0_mishap_86 1 rfl rfl ?_
                refine e_aald (f := ξ.2.2.2.2.1 1) (j := j) dX0_mishap_87 xm_r2 (fun _ => rfl) rfl (by omega) (by decide) ?_
                refine e_top (congrArg rfO hRe) ?_
                refine e_iload_n dX0_mishap_88 2 rfl rfl ?_
                refine e_iload_n dX0_mishap_89 3 rfl rfl ?_
                refine e_iload dX0_mishap_90 rfl ?_
                refine e_iload dX0_mishap_92 rfl ?_
                refine e_callV0 (As := [.int (nI tn), .int (nI a), .int (nI i), .int (nI kn)]) (rest := []) dX0_mishap_94 rfl mvX0_261 (xh_o hm hH) rfl (x_emishX hm hH hm20l eM) (Nat.le_of_ble_eq_true rfl) rfl rfl (Nat.le_of_ble_eq_true rfl) (Nat.zero_le _) (Nat.zero_le _) ?_
                refine e_aload_n dX0_mishap_97 0 rfl rfl rfl ?_
                refine e_iconst 0 dX0_mishap_98 rfl ?_
                refine e_callV1 (As := [.int 0]) (rest := []) dX0_mishap_99 rfl mvX0_152 (xm_o0) rfl (x_is0) (Nat.le_of_ble_eq_true rfl) rfl rfl (Nat.le_of_ble_eq_true rfl) (Nat.zero_le _) (Nat.zero_le _) ?_
                refine e_ireturn dX0_mishap_102 rfl rfl (Nat.zero_le _) (Nat.zero_le _) ?_
                have gl : (nI a = τ.2.2.1 6 (ix (nI j)) - 1) = (a = gA τ j - 1) := by rw [ix_nI (by omega), eA, show nI (gA τ j) - 1 = nI (gA τ j - 1) from pk_sub (b := 1) (by omega)]; exact propext (nI_eqN (by omega) (by omega))
                have g0 : IsWh (nI j) (nI a) (nI i) τ ∧ nI a ≠ τ.2.2.1 6 (ix (nI j)) - 1 := ⟨h5, fun z => h23 (by rw [gl] at z; exact z)⟩
                have e20 : (τ.2.2.1 12 (ix (nI j)) = 20) = (gM τ j = 20) := by rw [ix_nI (by omega), hO.2.2.2.1.2]; exact propext (nI_eqN (b := 20) (by omega) (by omega))
                refine ⟨_, _, own, rfl, ?_, ?_⟩
                · rw [sp_mishap, if_neg (fun z => z g0), if_neg (fun z => z ⟨⟨i32_nlt h34, i32_nlt h41⟩, i32_nlt h46, h52⟩), if_neg (by rw [e20]; exact h72)]
                · rw [sp_mishap, if_neg (fun z => z g0), if_neg (fun z => z ⟨⟨i32_nlt h34, i32_nlt h41⟩, i32_nlt h46, h52⟩), if_neg (by rw [e20]; exact h72), ix_nI (by omega)]
                  have u12 : ∀ k, (tA (tA (tA (tA (tA (b0 τ) 13 (upd (τ.2.2.1 13) (20 * j + gM τ j) (nI tn))) 14 (upd (τ.2.2.1 14) (20 * j + gM τ j) (nI a))) 15 (upd (τ.2.2.1 15) (20 * j + gM τ j) (nI i))) 16 (upd (τ.2.2.1 16) (20 * j + gM τ j) (nI kn))) 12 (upd (τ.2.2.1 12) j (τ.2.2.1 12 j + 1))).2.2.1 12 k = upd (τ.2.2.1 12) j (τ.2.2.1 12 j + 1) k := fun _ => rfl
                  have u13 : ∀ k, (tA (tA (tA (tA (tA (b0 τ) 13 (upd (τ.2.2.1 13) (20 * j + gM τ j) (nI tn))) 14 (upd (τ.2.2.1 14) (20 * j + gM τ j) (nI a))) 15 (upd (τ.2.2.1 15) (20 * j + gM τ j) (nI i))) 16 (upd (τ.2.2.1 16) (20 * j + gM τ j) (nI kn))) 12 (upd (τ.2.2.1 12) j (τ.2.2.1 12 j + 1))).2.2.1 13 k = upd (τ.2.2.1 13) (20 * j + gM τ j) (nI tn) k := fun _ => rfl
                  have u14 : ∀ k, (tA (tA (tA (tA (tA (b0 τ) 13 (upd (τ.2.2.1 13) (20 * j + gM τ j) (nI tn))) 14 (upd (τ.2.2.1 14) (20 * j + gM τ j) (nI a))) 15 (upd (τ.2.2.1 15) (20 * j + gM τ j) (nI i))) 16 (upd (τ.2.2.1 16) (20 * j + gM τ j) (nI kn))) 12 (upd (τ.2.2.1 12) j (τ.2.2.1 12 j + 1))).2.2.1 14 k = upd (τ.2.2.1 14) (20 * j + gM τ j) (nI a) k := fun _ => rfl
                  have u15 : ∀ k, (tA (tA (tA (tA (tA (b0 τ) 13 (upd (τ.2.2.1 13) (20 * j + gM τ j) (nI tn))) 14 (upd (τ.2.2.1 14) (20 * j + gM τ j) (nI a))) 15 (upd (τ.2.2.1 15) (20 * j + gM τ j) (nI i))) 16 (upd (τ.2.2.1 16) (20 * j + gM τ j) (nI kn))) 12 (upd (τ.2.2.1 12) j (τ.2.2.1 12 j + 1))).2.2.1 15 k = upd (τ.2.2.1 15) (20 * j + gM τ j) (nI i) k := fun _ => rfl
                  have u16 : ∀ k, (tA (tA (tA (tA (tA (b0 τ) 13 (upd (τ.2.2.1 13) (20 * j + gM τ j) (nI tn))) 14 (upd (τ.2.2.1 14) (20 * j + gM τ j) (nI a))) 15 (upd (τ.2.2.1 15) (20 * j + gM τ j) (nI i))) 16 (upd (τ.2.2.1 16) (20 * j + gM τ j) (nI kn))) 12 (upd (τ.2.2.1 12) j (τ.2.2.1 12 j + 1))).2.2.1 16 k = upd (τ.2.2.1 16) (20 * j + gM τ j) (nI kn) k := fun _ => rfl
                  have e12 : (tA (tA (tA (tA (tA (b0 τ) 13 (upd (τ.2.2.1 13) (20 * j + gM τ j) (nI tn))) 14 (upd (τ.2.2.1 14) (20 * j + gM τ j) (nI a))) 15 (upd (τ.2.2.1 15) (20 * j + gM τ j) (nI i))) 16 (upd (τ.2.2.1 16) (20 * j + gM τ j) (nI kn))) 12 (upd (τ.2.2.1 12) j (τ.2.2.1 12 j + 1))).2.2.1 12 j = nI (gM τ j + 1) := by rw [u12, pk_us, hO.2.2.2.1.2]; exact nI_add _ 1
                  have g1 : gM (tA (tA (tA (tA (tA (b0 τ) 13 (upd (τ.2.2.1 13) (20 * j + gM τ j) (nI tn))) 14 (upd (τ.2.2.1 14) (20 * j + gM τ j) (nI a))) 15 (upd (τ.2.2.1 15) (20 * j + gM τ j) (nI i))) 16 (upd (τ.2.2.1 16) (20 * j + gM τ j) (nI kn))) 12 (upd (τ.2.2.1 12) j (τ.2.2.1 12 j + 1))) j = gM τ j + 1 := (congrArg ix e12).trans (ix_nI (by omega))
                  refine hRel.st0.eng (τ' := (tA (tA (tA (tA (tA (b0 τ) 13 (upd (τ.2.2.1 13) (20 * j + gM τ j) (nI tn))) 14 (upd (τ.2.2.1 14) (20 * j + gM τ j) (nI a))) 15 (upd (τ.2.2.1 15) (20 * j + gM τ j) (nI i))) 16 (upd (τ.2.2.1 16) (20 * j + gM τ j) (nI kn))) 12 (upd (τ.2.2.1 12) j (τ.2.2.1 12 j + 1)))) (u := gU τ j) (m := gM τ j + 1) (F := gF τ j) hj hRe hH hown hn rfl rfl rfl rfl (fun k hk => (va_out (L := [8, 10, 12, 13, 14, 15, 16]) (by decide) k hk).trans ((va_out (L := [8, 10, 12, 13, 14, 15, 16]) (by decide) k hk).trans ((va_out (L := [8, 10, 12, 13, 14, 15, 16]) (by decide) k hk).trans ((va_out (L := [8, 10, 12, 13, 14, 15, 16]) (by decide) k hk).trans ((va_out (L := [8, 10, 12, 13, 14, 15, 16]) (by decide) k hk).trans (rfl)))))) rfl (fun e he hne => ⟨⟨rfl, rfl, rfl, (u12 _).trans (pk_un hne)⟩, fun _ _ => rfl, fun _ _ => rfl, fun q hq => ⟨(u13 _).trans (pk_un (by omega)), (u14 _).trans (pk_un (by omega)), (u15 _).trans (pk_un (by omega)), (u16 _).trans (pk_un (by omega))⟩⟩)
                    hO.2.2.1.1 (hn.2.2.1.trans hO.2.2.1.2) hO.2.2.1.2 (by omega) rfl e12 (fun q hq => ?_) (fun q hq => ?_) hO.B (hn.F hO) (fun a ha i hi => (hO.2.2.2.2.2 a ha i hi).2)
                  · rw [u13, u14, u15, u16]
                    show upd (η.2.2.2.2.1 0) (gM τ j) (nI tn) q = _ ∧ upd (η.2.2.2.2.1 1) (gM τ j) (nI a) q = _ ∧ upd (η.2.2.2.2.1 2) (gM τ j) (nI i) q = _ ∧ upd (η.2.2.2.2.1 3) (gM τ j) (nI kn) q = _
                    by_cases e : q = gM τ j
                    · subst e
                      rw [pk_us, pk_us, pk_us, pk_us, pk_us, pk_us, pk_us, pk_us]; exact ⟨rfl, rfl, rfl, rfl⟩
                    · have hne : ¬ 20 * j + q = (20 * j + gM τ j) := by omega
                      rw [pk_un e, pk_un e, pk_un e, pk_un e, pk_un hne, pk_un hne, pk_un hne, pk_un hne]
                      exact hn.2.2.2.2.1 q (by omega)
                  · rw [g1] at hq
                    rw [u13, u14, u15, u16]
                    by_cases e : q = gM τ j
                    · subst e
                      rw [pk_us, pk_us, pk_us, pk_us]
                      exact ⟨tn, a, i, kn, h1t, htn, (show a + 1 < gA τ j by omega), hi, by omega, rfl, rfl, rfl, rfl⟩
                    · have hne : ¬ 20 * j + q = (20 * j + gM τ j) := by omega
                      rw [pk_un hne, pk_un hne, pk_un hne, pk_un hne]
                      exact hMs q (by omega)
              · refine e_aload_n dX0_mishap_75 0 rfl rfl rfl ?_
                refine e_bipush 7 dX0_mishap_76 rfl ?_
                refine e_callV1 (As := [.int 7]) (rest := []) dX0_mishap_78 rfl mvX0_152 (xm_o0) rfl (x_isN (w := 7) (by decide)) (Nat.le_of_ble_eq_true rfl) rfl rfl (Nat.le_of_ble_eq_true rfl) (Nat.zero_le _) (Nat.zero_le _) ?_
                refine e_ireturn dX0_mishap_81 rfl rfl (Nat.zero_le _) (Nat.zero_le _) ?_
                have gl : (nI a = τ.2.2.1 6 (ix (nI j)) - 1) = (a = gA τ j - 1) := by rw [ix_nI (by omega), eA, show nI (gA τ j) - 1 = nI (gA τ j - 1) from pk_sub (b := 1) (by omega)]; exact propext (nI_eqN (by omega) (by omega))
                have g0 : IsWh (nI j) (nI a) (nI i) τ ∧ nI a ≠ τ.2.2.1 6 (ix (nI j)) - 1 := ⟨h5, fun z => h23 (by rw [gl] at z; exact z)⟩
                have e20 : (τ.2.2.1 12 (ix (nI j)) = 20) = (gM τ j = 20) := by rw [ix_nI (by omega), hO.2.2.2.1.2]; exact propext (nI_eqN (b := 20) (by omega) (by omega))
                refine ⟨_, _, own, rfl, ?_, ?_⟩
                · rw [sp_mishap, if_neg (fun z => z g0), if_neg (fun z => z ⟨⟨i32_nlt h34, i32_nlt h41⟩, i32_nlt h46, h52⟩), if_pos (by rw [e20]; exact h72)]
                · rw [sp_mishap, if_neg (fun z => z g0), if_neg (fun z => z ⟨⟨i32_nlt h34, i32_nlt h41⟩, i32_nlt h46, h52⟩), if_pos (by rw [e20]; exact h72)]; exact hRel.stE 7
            · refine e_aload_n dX0_mishap_55 0 rfl rfl rfl ?_
              refine e_iconst 5 dX0_mishap_56 rfl ?_
              refine e_callV1 (As := [.int 5]) (rest := []) dX0_mishap_57 rfl mvX0_152 (xm_o0) rfl (x_isN (w := 5) (by decide)) (Nat.le_of_ble_eq_true rfl) rfl rfl (Nat.le_of_ble_eq_true rfl) (Nat.zero_le _) (Nat.zero_le _) ?_
              refine e_ireturn dX0_mishap_60 rfl rfl (Nat.zero_le _) (Nat.zero_le _) ?_
              have gl : (nI a = τ.2.2.1 6 (ix (nI j)) - 1) = (a = gA τ j - 1) := by rw [ix_nI (by omega), eA, show nI (gA τ j) - 1 = nI (gA τ j - 1) from pk_sub (b := 1) (by omega)]; exact propext (nI_eqN (by omega) (by omega))
              have g0 : IsWh (nI j) (nI a) (nI i) τ ∧ nI a ≠ τ.2.2.1 6 (ix (nI j)) - 1 := ⟨h5, fun z => h23 (by rw [gl] at z; exact z)⟩
              refine ⟨_, _, own, rfl, ?_, ?_⟩
              · rw [sp_mishap, if_neg (fun z => z g0), if_pos (fun z => h52 z.2.2)]
              · rw [sp_mishap, if_neg (fun z => z g0), if_pos (fun z => h52 z.2.2)]; exact hRel.stE 5
    · refine e_aload_n dX0_mishap_26 0 rfl rfl rfl ?_
      refine e_iconst 2 dX0_mishap_27 rfl ?_
      refine e_callV1 (As := [.int 2]) (rest := []) dX0_mishap_28 rfl mvX0_152 (xm_o0) rfl (x_isN (w := 2) (by decide)) (Nat.le_of_ble_eq_true rfl) rfl rfl (Nat.le_of_ble_eq_true rfl) (Nat.zero_le _) (Nat.zero_le _) ?_
      refine e_ireturn dX0_mishap_31 rfl rfl (Nat.zero_le _) (Nat.zero_le _) ?_
      have gl : (nI a = τ.2.2.1 6 (ix (nI j)) - 1) = (a = gA τ j - 1) := by rw [ix_nI (by omega), eA, show nI (gA τ j) - 1 = nI (gA τ j - 1) from pk_sub (b := 1) (by omega)]; exact propext (nI_eqN (by omega) (by omega))
      refine ⟨_, _, own, rfl, ?_, ?_⟩
      · rw [sp_mishap, if_pos (fun z => z.2 (by rw [gl]; exact h23))]
      · rw [sp_mishap, if_pos (fun z => z.2 (by rw [gl]; exact h23))]; exact hRel.stE 2
  · have h5 : ¬ (IsWh e x w τ) := h5
    refine e_if_eq_t 26 (by decide) dX0_mishap_8 (by decide) ?_
    refine e_aload_n dX0_mishap_26 0 rfl rfl rfl ?_
    refine e_iconst 2 dX0_mishap_27 rfl ?_
    refine e_callV1 (As := [.int 2]) (rest := []) dX0_mishap_28 rfl mvX0_152 (xm_o0) rfl (x_isN (w := 2) (by decide)) (Nat.le_of_ble_eq_true rfl) rfl rfl (Nat.le_of_ble_eq_true rfl) (Nat.zero_le _) (Nat.zero_le _) ?_
    refine e_ireturn dX0_mishap_31 rfl rfl (Nat.zero_le _) (Nat.zero_le _) ?_
    refine ⟨_, _, own, rfl, ?_, ?_⟩
    · rw [sp_mishap, if_pos (fun z => h5 z.1)]
    · rw [sp_mishap, if_pos (fun z => h5 z.1)]; exact hRel.stE 2

