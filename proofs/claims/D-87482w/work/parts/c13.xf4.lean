/-! ===== the component: sheet (2) ===== -/
theorem st_same {α : Type} {L : List α} {r : Nat} {c : α} (h : L[r]? = some c) : L.set r c = L := by
  refine List.ext_getElem? (fun i => ?_)
  by_cases e : r = i
  · subst e; rw [List.getElem?_set_self (List.getElem?_eq_some_iff.mp h).1, h]
  · rw [List.getElem?_set_ne e]
set_option maxHeartbeats 4000000 in
set_option maxRecDepth 100000 in
/-- WheelTables.sheet -/
theorem x_sheet {ξ : Xs} {mid dyn : List ACell} {τ : Tw} {own : Nat → Nat} (hm : mid.length = 61) (hRel : Rel own ξ dyn τ) (e t r0 : Int32) : Ct yX0_sheet (ws_ yX0_sheet cX0_sheet 7 (some .boolean)) 4 0 0 [.ref 0, .int e, .int t, .int r0] (XM ξ mid dyn) (XQi mid (sp_sheet e t r0 τ)) noX := by
  obtain ⟨hI, hA, hB, hW, hP, hR, hT, hE, hC, hV⟩ := id hRel
  have hI4 := hE.1.1
  refine Ct.of (ini := false) (ls := [some (.ref 0), some (.int e), some (.int t), some (.int r0), none, none, none]) (by decide) (Nat.le_of_ble_eq_true rfl) (fun h => by cases h) rfl ?_
  refine e_aload_n dX0_sheet_0 0 rfl rfl rfl ?_
  refine e_iload_n dX0_sheet_1 1 rfl rfl ?_
  refine e_iload_n dX0_sheet_2 2 rfl rfl ?_
  refine e_iload_n dX0_sheet_3 3 rfl rfl ?_
  refine e_callV1 (As := [.int e, .int t, .int r0]) (rest := []) dX0_sheet_4 rfl mvX0_268 (xm_o0) rfl (x_wrongSheet hm hRel e t r0) (Nat.le_of_ble_eq_true rfl) rfl rfl (Nat.le_of_ble_eq_true rfl) (Nat.zero_le _) (Nat.zero_le _) ?_
  refine e_istore dX0_sheet_7 (ls_s (ls_s (ls_s (ls_1 rfl)))) (Nat.le_of_ble_eq_true rfl) ?_
  refine e_iload dX0_sheet_9 rfl ?_
  refine e_if_le 21 dX0_sheet_11 (by decide) (fun h11 => ?_) (fun h11 => ?_)
  · obtain ⟨ea, hie, y, n, q, hy, rfl, hn60, e3, h1q, hqn, rfl⟩ := spAsk_0 hE.1 hV.1 (i32_le h11)
    obtain ⟨j, hj, hj4, rfl⟩ := eng_of hE.1 hie
    obtain ⟨hO, hMs⟩ := hE.1.2.2.1 j hj
    obtain ⟨b, η, hRe, hH, hown, hn⟩ := hE.2 j hj
    obtain ⟨hA, hW, hA7, hW12, hm20, eM, hRd⟩ := id (hn.J hO)
    have hU := hO.2.2.1.1
    obtain ⟨s, r, g, hs, e2, hTr, hD, hown3, hg⟩ : ∃ s r : Nat, ∃ g : Nat → Int64, s < 4 ∧ τ.2.2.1 2 y = nI s ∧ ξ.2.2.2.2.2.2 y = (some (117 + r), nI s) ∧ dyn[r]? = some (rowC s n g) ∧ own r = 1 + y ∧ ∀ k, k < n → g k = τ.2.2.2 4 (60 * y + k) ∧ fitS s (g k) := by
      rcases hT y hy with ⟨z, -⟩ | ⟨s, n2, r, g, g1, g2, g3, g4, g5, g6, g7, g8⟩
      · rw [e3] at z; exact absurd (show nI n < 0 by rw [z]; decide) (nI_pos (by omega))
      · obtain rfl : n2 = n := (nI_eqN (by omega) (by omega)).mp (g4.symm.trans e3)
        exact ⟨s, r, g, g1, g3, g5, g6, g7, g8⟩
    have hrb : r < b ∨ b + (8 + 2 * η.1) ≤ r := by
      by_cases h : r < b ∨ b + (8 + 2 * η.1) ≤ r
      · exact h
      · have h2 := hown (r - b) (by omega)
        rw [show b + (r - b) = r by omega] at h2
        omega
    refine e_aload_n dX0_sheet_21 0 rfl rfl rfl ?_
    refine e_getf (v := (.ref 2)) dX0_sheet_22 rfl fX0_17 (xm_o0) rfl ?_
    refine e_iload_n dX0_sheet_25 1 rfl rfl ?_
    refine e_aald (f := ξ.2.2.2.2.1 1) (j := j) dX0_sheet_26 xm_r2 (fun _ => rfl) rfl (by omega) (by decide) ?_
    refine e_top (congrArg rfO hRe) ?_
    refine e_astore dX0_sheet_27 (ls_s (ls_s (ls_s (ls_s (ls_1 rfl))))) (Nat.le_of_ble_eq_true rfl) rfl ?_
    refine e_aload dX0_sheet_29 rfl rfl ?_
    refine e_getf (v := (.int η.2.2.1)) dX0_sheet_31 rfl fX0_255 (xh_o hm hH) rfl ?_
    refine e_top (congrArg Value.int (hn.2.2.1.trans hO.2.2.1.2)) ?_
    refine e_iload_n dX0_sheet_34 3 rfl rfl ?_
    refine e_iaddN (gU τ j) q dX0_sheet_35 ?_
    refine e_sipush 1000 dX0_sheet_36 rfl ?_
    refine e_icmp_leN ((gU τ j) + q) 1000 49 (by omega) (by omega) dX0_sheet_39 (by decide) (fun h39 => ?_) (fun h39 => ?_)
    · refine e_iconst 0 dX0_sheet_49 rfl ?_
      refine e_istore dX0_sheet_50 (ls_s (ls_s (ls_s (ls_s (ls_s (ls_1 rfl)))))) (Nat.le_of_ble_eq_true rfl) ?_
      refine e_forget (i := 4) (ln_s (ln_s (ln_s (ln_s ln_0)))) ?_
      refine E_mem (M' := XM ξ mid (rpB (dyn.set r (rowC s n (rngL g 0 0 (fun i => spCut (nI s) (oaM (gW τ j) (gR τ j) (trnN (gA τ j) (gW τ j) (gR τ j) (fun t => mhN τ j (nI t) false) (gU τ j) (gF τ j) (i + 1)) 0))))) b (enB (117 + b) η))) (by rw [rngL_0, st_same hD, ← hH.spl (enB_pos _ _)]) ?_
      refine x_sheet_loop hm hO hMs hH hn hqn hn60 hs hy hTr hD hrb (q + 1) 0 η (by omega) (by omega) ⟨rfl, rfl, hn.2.2.1.trans hO.2.2.1.2, rfl, rfl, rfl⟩ (hn.F hO) (fun η' hS2 hF2 => ?_)
      refine e_aload_n dX0_sheet_86 0 rfl rfl rfl ?_
      refine e_iconst 0 dX0_sheet_87 rfl ?_
      refine e_callV1 (As := [.int 0]) (rest := []) dX0_sheet_88 rfl mvX0_152 (xm_o0) rfl (x_is0) (Nat.le_of_ble_eq_true rfl) rfl rfl (Nat.le_of_ble_eq_true rfl) (Nat.zero_le _) (Nat.zero_le _) ?_
      refine e_ireturn dX0_sheet_91 rfl rfl (Nat.zero_le _) (Nat.zero_le _) ?_
      have e8 : τ.2.2.1 8 (ix (nI j)) + nI q = nI (gU τ j + q) := by rw [ix_nI (by omega), hO.2.2.1.2]; exact nI_add _ _
      have hr : Rds (gW τ j) (gR τ j) := fun i hi => ⟨(hO.2.2.2.2.1 i hi).1, (hO.2.2.2.2.1 i hi).2.1⟩
      refine ⟨_, _, own, rfl, ?_, ?_⟩
      · rw [sp_sheet, if_neg (i32_le h11), if_neg (by rw [e8]; exact fun z => absurd ((nI_ltN (a := 1000) (by omega) (by omega)).mp z) (by omega))]
      · rw [sp_sheet, if_neg (i32_le h11), if_neg (by rw [e8]; exact fun z => absurd ((nI_ltN (a := 1000) (by omega) (by omega)).mp z) (by omega)), ix_nI (by omega), ix_nI (by omega), ix_nI (by omega)]
        have u8 : ∀ k, (tA (tA (tB (b0 τ) 4 (rngL (τ.2.2.2 4) (60 * y) q (spLine j y τ))) 8 (upd (τ.2.2.1 8) j (τ.2.2.1 8 j + nI q))) 10 (fgUp (τ.2.2.1 10) j (gA τ j) (gW τ j) (spTrn j q τ))).2.2.1 8 k = upd (τ.2.2.1 8) j (τ.2.2.1 8 j + nI q) k := fun _ => rfl
        have u10 : ∀ k, (tA (tA (tB (b0 τ) 4 (rngL (τ.2.2.2 4) (60 * y) q (spLine j y τ))) 8 (upd (τ.2.2.1 8) j (τ.2.2.1 8 j + nI q))) 10 (fgUp (τ.2.2.1 10) j (gA τ j) (gW τ j) (spTrn j q τ))).2.2.1 10 k = fgUp (τ.2.2.1 10) j (gA τ j) (gW τ j) (spTrn j q τ) k := fun _ => rfl
        have hR1 : Rel own (xI ξ 8 0) (dyn.set r (rowC s n (rngL g 0 q (fun i => spCut (nI s) (oaM (gW τ j) (gR τ j) (trnN (gA τ j) (gW τ j) (gR τ j) (fun t => mhN τ j (nI t) false) (gU τ j) (gF τ j) (i + 1)) 0))))) (tB (b0 τ) 4 (rngL (τ.2.2.2 4) (60 * y) q (spLine j y τ))) := hRel.st0.wrN hy hs hn60 e2 e3 hTr hD hown3 (fun k hk => by
            by_cases h : k < q
            · have e1 : rngL g 0 q (fun i => spCut (nI s) (oaM (gW τ j) (gR τ j) (trnN (gA τ j) (gW τ j) (gR τ j) (fun t => mhN τ j (nI t) false) (gU τ j) (gF τ j) (i + 1)) 0)) k = spCut (nI s) (oaM (gW τ j) (gR τ j) (trnN (gA τ j) (gW τ j) (gR τ j) (fun t => mhN τ j (nI t) false) (gU τ j) (gF τ j) (k + 1)) 0) := by unfold rngL; rw [if_pos (by omega), Nat.sub_zero]
              have e2' : (rngL (τ.2.2.2 4) (60 * y) q (spLine j y τ)) (60 * y + k) = spLine j y τ k := by unfold rngL; rw [if_pos (by omega), show 60 * y + k - 60 * y = k by omega]
              rw [e1, e2']
              refine ⟨?_, spCut_fit hs _⟩
              rw [spLine, e2]; rfl
            · have e1 : rngL g 0 q (fun i => spCut (nI s) (oaM (gW τ j) (gR τ j) (trnN (gA τ j) (gW τ j) (gR τ j) (fun t => mhN τ j (nI t) false) (gU τ j) (gF τ j) (i + 1)) 0)) k = g k := by unfold rngL; rw [if_neg (by omega)]
              have e2' : (rngL (τ.2.2.2 4) (60 * y) q (spLine j y τ)) (60 * y + k) = τ.2.2.2 4 (60 * y + k) := by unfold rngL; rw [if_neg (by omega)]
              rw [e1, e2']; exact hg k hk) (fun k hk => by unfold rngL; rw [if_neg (by omega)]; rfl)
        exact hR1.eng (τ' := (tA (tA (tB (b0 τ) 4 (rngL (τ.2.2.2 4) (60 * y) q (spLine j y τ))) 8 (upd (τ.2.2.1 8) j (τ.2.2.1 8 j + nI q))) 10 (fgUp (τ.2.2.1 10) j (gA τ j) (gW τ j) (spTrn j q τ)))) (u := gU τ j + q) (m := gM τ j) (F := spTrn j q τ) hj hRe (hH.st (by rw [enB_len]; exact hrb)) hown hn hS2.1 hS2.2.1 hS2.2.2.2.2.2 rfl (fun k hk => (va_out (L := [8, 10, 12, 13, 14, 15, 16]) (by decide) k hk).trans ((va_out (L := [8, 10, 12, 13, 14, 15, 16]) (by decide) k hk).trans (rfl))) rfl (fun e he hne => ⟨⟨rfl, rfl, (u8 _).trans (pk_un hne), rfl⟩, fun _ _ => rfl, fun q hq => (u10 _).trans (by unfold fgUp; rw [if_neg (by omega)]; rfl), fun _ _ => ⟨rfl, rfl, rfl, rfl⟩⟩)
          (by omega) hS2.2.2.1 ((u8 j).trans (pk_us.trans (by rw [hO.2.2.1.2]; exact nI_add _ _))) hm20 (hS2.2.2.2.1.trans eM) hO.2.2.2.1.2 (fun q hq => by rw [hS2.2.2.2.2.1]; exact hn.2.2.2.2.1 q hq) hMs (trnN_ok hW12.1 hr hO.B q) hF2 (fun a ha i hi => (u10 _).trans (fgUp_at hA7.2 hW12.2 ha hi))
    · refine e_aload_n dX0_sheet_42 0 rfl rfl rfl ?_
      refine e_bipush 9 dX0_sheet_43 rfl ?_
      refine e_callV1 (As := [.int 9]) (rest := []) dX0_sheet_45 rfl mvX0_152 (xm_o0) rfl (x_isN (w := 9) (by decide)) (Nat.le_of_ble_eq_true rfl) rfl rfl (Nat.le_of_ble_eq_true rfl) (Nat.zero_le _) (Nat.zero_le _) ?_
      refine e_ireturn dX0_sheet_48 rfl rfl (Nat.zero_le _) (Nat.zero_le _) ?_
      have e8 : τ.2.2.1 8 (ix (nI j)) + nI q = nI (gU τ j + q) := by rw [ix_nI (by omega), hO.2.2.1.2]; exact nI_add _ _
      refine ⟨_, _, own, rfl, ?_, ?_⟩
      · rw [sp_sheet, if_neg (i32_le h11), if_pos (by rw [e8]; exact (nI_ltN (a := 1000) (by omega) (by omega)).mpr (by omega))]
      · rw [sp_sheet, if_neg (i32_le h11), if_pos (by rw [e8]; exact (nI_ltN (a := 1000) (by omega) (by omega)).mpr (by omega))]; exact hRel.stE 9
  · have hw0 : ¬ spAsk e t r0 τ = 0 := fun z => h11 (by rw [z]; decide)
    refine e_aload_n dX0_sheet_14 0 rfl rfl rfl ?_
    refine e_iload dX0_sheet_15 rfl ?_
    refine e_callV1 (As := [.int (spAsk e t r0 τ)]) (rest := []) dX0_sheet_17 rfl mvX0_152 (xm_o0) rfl (x_isN (w := spAsk e t r0 τ) (by assumption)) (Nat.le_of_ble_eq_true rfl) rfl rfl (Nat.le_of_ble_eq_true rfl) (Nat.zero_le _) (Nat.zero_le _) ?_
    refine e_ireturn dX0_sheet_20 rfl rfl (Nat.zero_le _) (Nat.zero_le _) ?_
    refine ⟨_, _, own, rfl, ?_, ?_⟩
    · rw [sp_sheet, if_pos (i32_nle h11)]
    · rw [sp_sheet, if_pos (i32_nle h11)]; exact hRel.st _

