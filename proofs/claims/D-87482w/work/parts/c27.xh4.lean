/-! ===== the component: an engine set (3) ===== -/
theorem XM_self {ξ : Xs} {mid dyn : List ACell} : XM (xB ξ 11 (ξ.2.2.2.1 11)) mid dyn = XM ξ mid dyn := rfl
set_option maxHeartbeats 4000000 in
set_option maxRecDepth 100000 in
/-- WheelTables.set -/
theorem x_set {ξ : Xs} {mid dyn : List ACell} {τ : Tw} {own : Nat → Nat} (hm : mid.length = 61) (hRel : Rel own ξ dyn τ) (e t n0 : Int32) : Ct yX0_set (ws_ yX0_set cX0_set 7 (some .boolean)) 3 0 0 [.ref 0, .int e, .int t, .int n0] (XM ξ mid dyn) (XQi mid (sp_set e t n0 τ)) noX := by
  obtain ⟨hI, hA, hB, hW, hP, hR, hT, hE, hC, hV⟩ := id hRel
  have hI4 := hE.1.1
  refine Ct.of (ini := false) (ls := [some (.ref 0), some (.int e), some (.int t), some (.int n0), none, none, none]) (by decide) (Nat.le_of_ble_eq_true rfl) (fun h => by cases h) rfl ?_
  refine e_iload_n dX0_set_0 2 rfl rfl ?_
  refine e_callSB (As := [.int t]) (rest := []) dX0_set_1 rfl msX0_148 (x_isTray t) (Nat.le_of_ble_eq_true rfl) rfl rfl (Nat.le_of_ble_eq_true rfl) (Nat.zero_le _) (Nat.zero_le _) (fun h1 => ?_) (fun h1 => ?_)
  · have h1 : (0 ≤ t ∧ t < 4) := h1
    refine e_if_ne_t 13 (by decide) dX0_set_4 (by decide) ?_
    obtain ⟨y, hy, rfl⟩ := in_0_4 h1
    refine e_aload_n dX0_set_13 0 rfl rfl rfl ?_
    refine e_iload_n dX0_set_14 1 rfl rfl ?_
    refine e_callVB (As := [.int e]) (rest := []) dX0_set_15 rfl mvX0_196 (xm_o0) rfl (x_isEngine hm hRel e) (Nat.le_of_ble_eq_true rfl) rfl rfl (Nat.le_of_ble_eq_true rfl) (Nat.zero_le _) (Nat.zero_le _) (fun h15 => ?_) (fun h15 => ?_)
    · have h15 : (IsE e τ) := h15
      refine e_if_ne_t 27 (by decide) dX0_set_18 (by decide) ?_
      refine e_aload_n dX0_set_27 0 rfl rfl rfl ?_
      refine e_getf (v := (.ref 1)) dX0_set_28 rfl fX0_11 (xm_o0) rfl ?_
      refine e_iload_n dX0_set_31 2 rfl rfl ?_
      refine e_aald (f := trF) (j := y) dX0_set_32 xm_r1 (fun _ => rfl) rfl (by omega) (by decide) ?_
      refine e_top (congrArg rfO (trF_at (by omega))) ?_
      refine e_astore dX0_set_33 (ls_s (ls_s (ls_s (ls_1 rfl)))) (Nat.le_of_ble_eq_true rfl) rfl ?_
      refine e_aload dX0_set_35 rfl rfl ?_
      rcases hT y hy with ⟨e3, hTr, e2⟩ | ⟨s, n, r, g, hs, hn60, e2, e3, hTr, hD, hown3, hg⟩
      · have hO3 : (XM ξ mid dyn)[52 + y]? = some (.inr (3, [.null, .int 0])) := by rw [xm_oT hy, hTr]; rfl
        refine e_getf (v := .null) dX0_set_37 rfl fX0_179 (hO3) rfl ?_
        refine e_ifnonnullN dX0_set_40 ?_
        refine e_aload_n dX0_set_43 0 rfl rfl rfl ?_
        refine e_iconst 3 dX0_set_44 rfl ?_
        refine e_callV1 (As := [.int 3]) (rest := []) dX0_set_45 rfl mvX0_152 (xm_o0) rfl (x_isN (w := 3) (by decide)) (Nat.le_of_ble_eq_true rfl) rfl rfl (Nat.le_of_ble_eq_true rfl) (Nat.zero_le _) (Nat.zero_le _) ?_
        refine e_ireturn dX0_set_48 rfl rfl (Nat.zero_le _) (Nat.zero_le _) ?_
        refine ⟨_, _, own, rfl, ?_, ?_⟩
        · rw [sp_set, if_neg (not_or.mpr ⟨nI_pos (by omega), fun (z : (4 : Int32) ≤ nI y) => absurd ((nI_leN (a := 4) (by omega) (by omega)).mp z) (by omega)⟩), if_neg (fun z => z h15), ix_nI (by omega), if_pos (by rw [e3]; decide)]
        · rw [sp_set, if_neg (not_or.mpr ⟨nI_pos (by omega), fun (z : (4 : Int32) ≤ nI y) => absurd ((nI_leN (a := 4) (by omega) (by omega)).mp z) (by omega)⟩), if_neg (fun z => z h15), ix_nI (by omega), if_pos (by rw [e3]; decide)]; exact hRel.stE 3
      · have hO3 : (XM ξ mid dyn)[52 + y]? = some (.inr (3, [.ref (117 + r), .int (nI s)])) := by rw [xm_oT hy, hTr]; rfl
        refine e_getf (v := (.ref (117 + r))) dX0_set_37 rfl fX0_179 (hO3) rfl ?_
        refine e_ifnonnull 49 dX0_set_40 (by decide) ?_
        obtain ⟨j, hj, hj4, rfl⟩ := eng_of hE.1 h15
        obtain ⟨hO, hMs⟩ := hE.1.2.2.1 j hj
        obtain ⟨b, η, hRe, hH, hown, hn⟩ := hE.2 j hj
        obtain ⟨hA, hW, hA7, hW12, hm20, eM, hRd⟩ := id (hn.J hO)
        have eA := hO.1.2.2
        have eW := hO.2.1.2.2
        refine e_aload_n dX0_set_49 0 rfl rfl rfl ?_
        refine e_getf (v := (.ref 2)) dX0_set_50 rfl fX0_17 (xm_o0) rfl ?_
        refine e_iload_n dX0_set_53 1 rfl rfl ?_
        refine e_aald (f := ξ.2.2.2.2.1 1) (j := j) dX0_set_54 xm_r2 (fun _ => rfl) rfl (by omega) (by decide) ?_
        refine e_top (congrArg rfO hRe) ?_
        refine e_astore dX0_set_55 (ls_s (ls_s (ls_s (ls_s (ls_1 rfl))))) (Nat.le_of_ble_eq_true rfl) rfl ?_
        refine e_iload_n dX0_set_57 3 rfl rfl ?_
        refine e_iconst 1 dX0_set_58 rfl ?_
        refine e_icmp_lt 71 dX0_set_59 (by decide) (fun h59 => ?_) (fun h59 => ?_)
        · refine e_aload_n dX0_set_71 0 rfl rfl rfl ?_
          refine e_iconst 5 dX0_set_72 rfl ?_
          refine e_callV1 (As := [.int 5]) (rest := []) dX0_set_73 rfl mvX0_152 (xm_o0) rfl (x_isN (w := 5) (by decide)) (Nat.le_of_ble_eq_true rfl) rfl rfl (Nat.le_of_ble_eq_true rfl) (Nat.zero_le _) (Nat.zero_le _) ?_
          refine e_ireturn dX0_set_76 rfl rfl (Nat.zero_le _) (Nat.zero_le _) ?_
          refine ⟨_, _, own, rfl, ?_, ?_⟩
          · rw [sp_set, if_neg (not_or.mpr ⟨nI_pos (by omega), fun (z : (4 : Int32) ≤ nI y) => absurd ((nI_leN (a := 4) (by omega) (by omega)).mp z) (by omega)⟩), if_neg (fun z => z h15), ix_nI (by omega), if_neg (by rw [e3]; exact nI_pos (by omega)), if_pos (fun z => i32_lt h59 z.1)]
          · rw [sp_set, if_neg (not_or.mpr ⟨nI_pos (by omega), fun (z : (4 : Int32) ≤ nI y) => absurd ((nI_leN (a := 4) (by omega) (by omega)).mp z) (by omega)⟩), if_neg (fun z => z h15), ix_nI (by omega), if_neg (by rw [e3]; exact nI_pos (by omega)), if_pos (fun z => i32_lt h59 z.1)]; exact hRel.stE 5
        · refine e_iload_n dX0_set_62 3 rfl rfl ?_
          refine e_aload dX0_set_63 rfl rfl ?_
          refine e_getf (v := (.int (nI η.1))) dX0_set_65 rfl fX0_199 (xh_o hm hH) rfl ?_
          refine e_top (congrArg (fun z => Value.int (nI z)) hA) ?_
          refine e_icmp_le 77 dX0_set_68 (by decide) (fun h68 => ?_) (fun h68 => ?_)
          · have hnk : 1 ≤ n0 ∧ n0 ≤ τ.2.2.1 6 (ix (nI j)) := ⟨i32_nlt h59, by rw [ix_nI (by omega), eA]; exact h68⟩
            obtain ⟨q, hqA, rfl⟩ := in_le (x := n0) (gA τ j) (nI_toInt (by omega)) (fun z => h59 (Int32.lt_trans z (by decide))) h68
            have hq1 : 1 ≤ q := (nI_leN (a := 1) (by omega) (by omega)).mp (i32_nlt h59)
            refine e_aload dX0_set_77 rfl rfl ?_
            refine e_callV1 (As := []) (rest := []) dX0_set_79 rfl mvX0_204 (xm_oT hy) rfl (y_manyS hm hy hs hn60 hTr hD) (Nat.le_of_ble_eq_true rfl) rfl rfl (Nat.le_of_ble_eq_true rfl) (Nat.zero_le _) (Nat.zero_le _) ?_
            refine e_iload_n dX0_set_82 3 rfl rfl ?_
            refine e_icmp_geN n q 92 (by omega) (by omega) dX0_set_83 (by decide) (fun h83 => ?_) (fun h83 => ?_)
            · refine e_iconst 0 dX0_set_92 rfl ?_
              refine e_istore dX0_set_93 (ls_s (ls_s (ls_s (ls_s (ls_s (ls_1 rfl)))))) (Nat.le_of_ble_eq_true rfl) ?_
              refine x_set1 (b := b) hm h83 hn60 hs hy hTr hD hg (q + 1) 0 (by omega) (by omega) rfl (fun hz => ⟨_, _, own, rfl, by rw [sp_set, if_neg (not_or.mpr ⟨nI_pos (by omega), fun (z : (4 : Int32) ≤ nI y) => absurd ((nI_leN (a := 4) (by omega) (by omega)).mp z) (by omega)⟩), if_neg (fun z => z h15), ix_nI (by omega), if_neg (by rw [e3]; exact nI_pos (by omega)), if_neg (fun z => z hnk), e3, if_neg (fun z => absurd ((nI_ltN (by omega) (by omega)).mp z) (by omega)), ix_nI (by omega), if_pos hz], by rw [sp_set, if_neg (not_or.mpr ⟨nI_pos (by omega), fun (z : (4 : Int32) ≤ nI y) => absurd ((nI_leN (a := 4) (by omega) (by omega)).mp z) (by omega)⟩), if_neg (fun z => z h15), ix_nI (by omega), if_neg (by rw [e3]; exact nI_pos (by omega)), if_neg (fun z => z hnk), e3, if_neg (fun z => absurd ((nI_ltN (by omega) (by omega)).mp z) (by omega)), ix_nI (by omega), if_pos hz]; exact hRel.stE 5⟩) (fun hz => ?_)
              have hq7 : q ≤ 7 := by omega
              refine e_iconst 0 dX0_set_131 rfl ?_
              refine e_istore dX0_set_132 (ls_s (ls_s (ls_s (ls_s (ls_s (ls_1 rfl)))))) (Nat.le_of_ble_eq_true rfl) ?_
              refine E_mem (M' := XM (xB ξ 11 (rngL (ξ.2.2.2.1 11) 0 0 (fun k => τ.2.2.2 4 (60 * y + k)))) mid dyn) ?_ ?_
              · rw [rngL_0]
                exact XM_self.symm
              refine x_set2 (b := b) hm h83 hn60 hs hy hTr hD hg hq7 (q + 1) 0 (by omega) (by omega) ?_
              refine e_aload_n dX0_set_160 0 rfl rfl rfl ?_
              refine e_iload_n dX0_set_161 3 rfl rfl ?_
              refine e_callV0 (As := [.int (nI q)]) (rest := []) dX0_set_162 rfl mvX0_245 (xm_o0) rfl (x_differences hq7 hq1) (Nat.le_of_ble_eq_true rfl) rfl rfl (Nat.le_of_ble_eq_true rfl) (Nat.zero_le _) (Nat.zero_le _) ?_
              refine e_iconst 0 dX0_set_165 rfl ?_
              refine e_istore dX0_set_166 (ls_s (ls_s (ls_s (ls_s (ls_s (ls_1 rfl)))))) (Nat.le_of_ble_eq_true rfl) ?_
              have hbd := bil_bd hz
              have hr : Rds (gW τ j) (gR τ j) := fun i hi => ⟨(hO.2.2.2.2.1 i hi).1, (hO.2.2.2.2.1 i hi).2.1⟩
              refine E_mem (M' := XM (xB ξ 11 (stT q (dfL q (rngL (ξ.2.2.2.1 11) 0 q (fun k => τ.2.2.2 4 (60 * y + k))) (q - 1)) ((0 - 1) / 2))) mid (rpB dyn b (enB (117 + b) η))) ?_ ?_
              · rw [← hH.spl (enB_pos _ _)]
                rfl
              refine x_set4 hm hO hn hH hq1 hq7 hbd (gA τ j + 1) 0 η (by omega) (by omega) (Sme.rf η) (fun a ha => absurd ha (by omega)) (fun η' f hS hF => ?_)
              have hle : b + (enB (117 + b) η').length ≤ dyn.length := by
                have := hH.le (enB_pos _ _)
                rw [enB_len] at this ⊢
                rw [hS.1]; exact this
              have hH1 := rpB_Hl hle
              obtain ⟨ξ1, hξ1⟩ : ∃ ξ1, xB ξ 11 f = ξ1 := ⟨_, rfl⟩
              rw [hξ1]
              have hRel1 : Rel own ξ1 dyn τ := hRel.sq (by rw [← hξ1]; exact Sy.rf.B f rfl)
              have hRe1 : ξ1.2.2.2.2.1 1 j = some (117 + b) := by rw [← hξ1]; exact hRe
              refine e_aload dX0_set_225 rfl rfl ?_
              refine e_iconst 0 dX0_set_227 rfl ?_
              refine e_xputI dX0_set_228 rfl pX0_255 rfl (xh_o hm hH1) (Nat.le_of_ble_eq_true rfl) (xh_sT hm hH1 _) ?_
              rw [rpB_rpB hle (by rw [enB_len, enB_len]; rfl)]
              refine e_aload_n dX0_set_231 0 rfl rfl rfl ?_
              refine e_iconst 0 dX0_set_232 rfl ?_
              refine e_callV1 (As := [.int 0]) (rest := []) dX0_set_233 rfl mvX0_152 (xm_o0) rfl (x_is0) (Nat.le_of_ble_eq_true rfl) rfl rfl (Nat.le_of_ble_eq_true rfl) (Nat.zero_le _) (Nat.zero_le _) ?_
              refine e_ireturn dX0_set_236 rfl rfl (Nat.zero_le _) (Nat.zero_le _) ?_
              refine ⟨_, _, own, rfl, ?_, ?_⟩
              · rw [sp_set, if_neg (not_or.mpr ⟨nI_pos (by omega), fun (z : (4 : Int32) ≤ nI y) => absurd ((nI_leN (a := 4) (by omega) (by omega)).mp z) (by omega)⟩), if_neg (fun z => z h15), ix_nI (by omega), if_neg (by rw [e3]; exact nI_pos (by omega)), if_neg (fun z => z hnk), e3, if_neg (fun z => absurd ((nI_ltN (by omega) (by omega)).mp z) (by omega)), ix_nI (by omega), if_neg (fun z => z hz)]
              · rw [sp_set, if_neg (not_or.mpr ⟨nI_pos (by omega), fun (z : (4 : Int32) ≤ nI y) => absurd ((nI_leN (a := 4) (by omega) (by omega)).mp z) (by omega)⟩), if_neg (fun z => z h15), ix_nI (by omega), if_neg (by rw [e3]; exact nI_pos (by omega)), if_neg (fun z => z hnk), e3, if_neg (fun z => absurd ((nI_ltN (by omega) (by omega)).mp z) (by omega)), ix_nI (by omega), if_neg (fun z => z hz), ix_nI (show j < 2147483648 by omega)]
                have u8 : ∀ k, (tA (tA (b0 τ) 10 (fgUp (τ.2.2.1 10) j (gA τ j) (gW τ j) (setM (gR τ j) q (fun k => τ.2.2.2 4 (60 * y + k))))) 8 (upd (τ.2.2.1 8) j 0)).2.2.1 8 k = upd (τ.2.2.1 8) j 0 k := fun _ => rfl
                have u10 : ∀ k, (tA (tA (b0 τ) 10 (fgUp (τ.2.2.1 10) j (gA τ j) (gW τ j) (setM (gR τ j) q (fun k => τ.2.2.2 4 (60 * y + k))))) 8 (upd (τ.2.2.1 8) j 0)).2.2.1 10 k = fgUp (τ.2.2.1 10) j (gA τ j) (gW τ j) (setM (gR τ j) q (fun k => τ.2.2.2 4 (60 * y + k))) k := fun _ => rfl
                exact hRel1.st0.eng (τ' := (tA (tA (b0 τ) 10 (fgUp (τ.2.2.1 10) j (gA τ j) (gW τ j) (setM (gR τ j) q (fun k => τ.2.2.2 4 (60 * y + k))))) 8 (upd (τ.2.2.1 8) j 0))) (u := 0) (m := gM τ j) (F := setM (gR τ j) q (fun k => τ.2.2.2 4 (60 * y + k))) hj hRe1 hH hown hn hS.1 hS.2.1 hS.2.2.2.2.2 rfl (fun k hk => (va_out (L := [8, 10, 12, 13, 14, 15, 16]) (by decide) k hk).trans ((va_out (L := [8, 10, 12, 13, 14, 15, 16]) (by decide) k hk).trans (rfl))) rfl (fun e he hne => ⟨⟨rfl, rfl, (u8 _).trans (pk_un hne), rfl⟩, fun _ _ => rfl, fun q hq => (u10 _).trans (by unfold fgUp; rw [if_neg (by omega)]; rfl), fun _ _ => ⟨rfl, rfl, rfl, rfl⟩⟩)
                  (by omega) rfl ((u8 j).trans pk_us) hm20 (hS.2.2.2.1.trans eM) hO.2.2.2.1.2 (fun q hq => by
                    show η'.2.2.2.2.1 0 q = _ ∧ η'.2.2.2.2.1 1 q = _ ∧ η'.2.2.2.2.1 2 q = _ ∧ η'.2.2.2.2.1 3 q = _
                    rw [hS.2.2.2.2.1]; exact hn.2.2.2.2.1 q hq) hMs (setM_ok hr) (fun a ha i hi => (hF a ha i hi).trans (setM_at hr hi)) (fun a ha i hi => (u10 _).trans (fgUp_at hA7.2 hW12.2 ha hi))
            · refine e_aload_n dX0_set_86 0 rfl rfl rfl ?_
              refine e_iconst 4 dX0_set_87 rfl ?_
              refine e_callV1 (As := [.int 4]) (rest := []) dX0_set_88 rfl mvX0_152 (xm_o0) rfl (x_isN (w := 4) (by decide)) (Nat.le_of_ble_eq_true rfl) rfl rfl (Nat.le_of_ble_eq_true rfl) (Nat.zero_le _) (Nat.zero_le _) ?_
              refine e_ireturn dX0_set_91 rfl rfl (Nat.zero_le _) (Nat.zero_le _) ?_
              refine ⟨_, _, own, rfl, ?_, ?_⟩
              · rw [sp_set, if_neg (not_or.mpr ⟨nI_pos (by omega), fun (z : (4 : Int32) ≤ nI y) => absurd ((nI_leN (a := 4) (by omega) (by omega)).mp z) (by omega)⟩), if_neg (fun z => z h15), ix_nI (by omega), if_neg (by rw [e3]; exact nI_pos (by omega)), if_neg (fun z => z hnk), e3, if_pos ((nI_ltN (by omega) (by omega)).mpr (by omega))]
              · rw [sp_set, if_neg (not_or.mpr ⟨nI_pos (by omega), fun (z : (4 : Int32) ≤ nI y) => absurd ((nI_leN (a := 4) (by omega) (by omega)).mp z) (by omega)⟩), if_neg (fun z => z h15), ix_nI (by omega), if_neg (by rw [e3]; exact nI_pos (by omega)), if_neg (fun z => z hnk), e3, if_pos ((nI_ltN (by omega) (by omega)).mpr (by omega))]; exact hRel.stE 4
          · refine e_aload_n dX0_set_71 0 rfl rfl rfl ?_
            refine e_iconst 5 dX0_set_72 rfl ?_
            refine e_callV1 (As := [.int 5]) (rest := []) dX0_set_73 rfl mvX0_152 (xm_o0) rfl (x_isN (w := 5) (by decide)) (Nat.le_of_ble_eq_true rfl) rfl rfl (Nat.le_of_ble_eq_true rfl) (Nat.zero_le _) (Nat.zero_le _) ?_
            refine e_ireturn dX0_set_76 rfl rfl (Nat.zero_le _) (Nat.zero_le _) ?_
            refine ⟨_, _, own, rfl, ?_, ?_⟩
            · rw [sp_set, if_neg (not_or.mpr ⟨nI_pos (by omega), fun (z : (4 : Int32) ≤ nI y) => absurd ((nI_leN (a := 4) (by omega) (by omega)).mp z) (by omega)⟩), if_neg (fun z => z h15), ix_nI (by omega), if_neg (by rw [e3]; exact nI_pos (by omega)), if_pos (fun z => h68 (by have z2 := z.2; rw [ix_nI (by omega), eA] at z2; exact z2))]
            · rw [sp_set, if_neg (not_or.mpr ⟨nI_pos (by omega), fun (z : (4 : Int32) ≤ nI y) => absurd ((nI_leN (a := 4) (by omega) (by omega)).mp z) (by omega)⟩), if_neg (fun z => z h15), ix_nI (by omega), if_neg (by rw [e3]; exact nI_pos (by omega)), if_pos (fun z => h68 (by have z2 := z.2; rw [ix_nI (by omega), eA] at z2; exact z2))]; exact hRel.stE 5
    · have h15 : ¬ (IsE e τ) := h15
      refine e_if_ne_f (by decide) 27 dX0_set_18 (by decide) ?_
      refine e_aload_n dX0_set_21 0 rfl rfl rfl ?_
      refine e_iconst 2 dX0_set_22 rfl ?_
      refine e_callV1 (As := [.int 2]) (rest := []) dX0_set_23 rfl mvX0_152 (xm_o0) rfl (x_isN (w := 2) (by decide)) (Nat.le_of_ble_eq_true rfl) rfl rfl (Nat.le_of_ble_eq_true rfl) (Nat.zero_le _) (Nat.zero_le _) ?_
      refine e_ireturn dX0_set_26 rfl rfl (Nat.zero_le _) (Nat.zero_le _) ?_
      refine ⟨_, _, own, rfl, ?_, ?_⟩
      · rw [sp_set, if_neg (not_or.mpr ⟨nI_pos (by omega), fun (z : (4 : Int32) ≤ nI y) => absurd ((nI_leN (a := 4) (by omega) (by omega)).mp z) (by omega)⟩), if_pos h15]
      · rw [sp_set, if_neg (not_or.mpr ⟨nI_pos (by omega), fun (z : (4 : Int32) ≤ nI y) => absurd ((nI_leN (a := 4) (by omega) (by omega)).mp z) (by omega)⟩), if_pos h15]; exact hRel.stE 2
  · have h1 : ¬ (0 ≤ t ∧ t < 4) := h1
    refine e_if_ne_f (by decide) 13 dX0_set_4 (by decide) ?_
    refine e_aload_n dX0_set_7 0 rfl rfl rfl ?_
    refine e_iconst 1 dX0_set_8 rfl ?_
    refine e_callV1 (As := [.int 1]) (rest := []) dX0_set_9 rfl mvX0_152 (xm_o0) rfl (x_isN (w := 1) (by decide)) (Nat.le_of_ble_eq_true rfl) rfl rfl (Nat.le_of_ble_eq_true rfl) (Nat.zero_le _) (Nat.zero_le _) ?_
    refine e_ireturn dX0_set_12 rfl rfl (Nat.zero_le _) (Nat.zero_le _) ?_
    refine ⟨_, _, own, rfl, ?_, ?_⟩
    · rw [sp_set, if_pos (if h0 : t < 0 then Or.inl h0 else Or.inr (Int32.not_lt.mp fun z => h1 ⟨Int32.not_lt.mp h0, z⟩))]
    · rw [sp_set, if_pos (if h0 : t < 0 then Or.inl h0 else Or.inr (Int32.not_lt.mp fun z => h1 ⟨Int32.not_lt.mp h0, z⟩))]; exact hRel.stE 1

