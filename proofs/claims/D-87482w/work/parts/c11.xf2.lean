/-! ===== the component: sheets asked for ===== -/
theorem y_manyS {ξ : Xs} {mid dyn : List ACell} (hm : mid.length = 61) {t : Nat} (ht : t < 4) {s n r : Nat} {g : Nat → Int64} (hs : s < 4) (hn : n ≤ 60) (hTr : ξ.2.2.2.2.2.2 t = (some (117 + r), nI s)) (hD : dyn[r]? = some (rowC s n g)) : Ct yX3_many (ws_ yX3_many cX3_many 1 (some .int)) 0 0 0 [.ref (52 + t)] (XM ξ mid dyn) (Q1 (some (.int (nI n))) (XM ξ mid dyn)) noX := by
  rcases (show s = 0 ∨ s = 1 ∨ s = 2 ∨ s = 3 by omega) with rfl | rfl | rfl | rfl
  · exact y_many0 hm ht hn hTr hD
  · exact y_many1 hm ht hn hTr hD
  · exact y_many2 hm ht hn hTr hD
  · exact y_many3 hm ht hn hTr hD
set_option maxHeartbeats 4000000 in
set_option maxRecDepth 100000 in
/-- WheelTables.wrongSheet -/
theorem x_wrongSheet {ξ : Xs} {mid dyn : List ACell} {τ : Tw} {own : Nat → Nat} (hm : mid.length = 61) (hRel : Rel own ξ dyn τ) (e t r0 : Int32) : Ct yX0_wrongSheet (ws_ yX0_wrongSheet cX0_wrongSheet 4 (some .int)) 2 0 0 [.ref 0, .int e, .int t, .int r0] (XM ξ mid dyn) (Q1 (some (.int (spAsk e t r0 τ))) (XM ξ mid dyn)) noX := by
  obtain ⟨hI, hA, hB, hW, hP, hR, hT, hE, hC, hV⟩ := id hRel
  have hI4 := hE.1.1
  refine Ct.of (ini := false) (ls := [some (.ref 0), some (.int e), some (.int t), some (.int r0)]) (by decide) (Nat.le_of_ble_eq_true rfl) (fun h => by cases h) rfl ?_
  refine e_iload_n dX0_wrongSheet_0 2 rfl rfl ?_
  refine e_callSB (As := [.int t]) (rest := []) dX0_wrongSheet_1 rfl msX0_148 (x_isTray t) (Nat.le_of_ble_eq_true rfl) rfl rfl (Nat.le_of_ble_eq_true rfl) (Nat.zero_le _) (Nat.zero_le _) (fun h1 => ?_) (fun h1 => ?_)
  · have h1 : (0 ≤ t ∧ t < 4) := h1
    refine e_if_ne_t 9 (by decide) dX0_wrongSheet_4 (by decide) ?_
    obtain ⟨y, hy, rfl⟩ := in_0_4 h1
    refine e_aload_n dX0_wrongSheet_9 0 rfl rfl rfl ?_
    refine e_iload_n dX0_wrongSheet_10 1 rfl rfl ?_
    refine e_callVB (As := [.int e]) (rest := []) dX0_wrongSheet_11 rfl mvX0_196 (xm_o0) rfl (x_isEngine hm hRel e) (Nat.le_of_ble_eq_true rfl) rfl rfl (Nat.le_of_ble_eq_true rfl) (Nat.zero_le _) (Nat.zero_le _) (fun h11 => ?_) (fun h11 => ?_)
    · have h11 : (IsE e τ) := h11
      refine e_if_ne_t 19 (by decide) dX0_wrongSheet_14 (by decide) ?_
      refine e_aload_n dX0_wrongSheet_19 0 rfl rfl rfl ?_
      refine e_getf (v := (.ref 1)) dX0_wrongSheet_20 rfl fX0_11 (xm_o0) rfl ?_
      refine e_iload_n dX0_wrongSheet_23 2 rfl rfl ?_
      refine e_aald (f := trF) (j := y) dX0_wrongSheet_24 xm_r1 (fun _ => rfl) rfl (by omega) (by decide) ?_
      refine e_top (congrArg rfO (trF_at (by omega))) ?_
      rcases hT y hy with ⟨e3, hTr, e2⟩ | ⟨s, n, r, g, hs, hn, e2, e3, hTr, hD, hown3, hg⟩
      · have hO3 : (XM ξ mid dyn)[52 + y]? = some (.inr (3, [.null, .int 0])) := by rw [xm_oT hy, hTr]; rfl
        refine e_getf (v := .null) dX0_wrongSheet_25 rfl fX0_179 (hO3) rfl ?_
        refine e_ifnonnullN dX0_wrongSheet_28 ?_
        refine e_iconst 3 dX0_wrongSheet_31 rfl ?_
        refine e_ireturn dX0_wrongSheet_32 rfl rfl (Nat.zero_le _) (Nat.zero_le _) ?_
        refine ⟨?_, rfl⟩
        unfold spAsk
        rw [if_neg (not_or.mpr ⟨nI_pos (by omega), fun (z : (4 : Int32) ≤ nI y) => absurd ((nI_leN (a := 4) (by omega) (by omega)).mp z) (by omega)⟩), if_neg (fun z => z h11), ix_nI (by omega), if_pos (by rw [e3]; decide)]
      · have hO3 : (XM ξ mid dyn)[52 + y]? = some (.inr (3, [.ref (117 + r), .int (nI s)])) := by rw [xm_oT hy, hTr]; rfl
        refine e_getf (v := (.ref (117 + r))) dX0_wrongSheet_25 rfl fX0_179 (hO3) rfl ?_
        refine e_ifnonnull 33 dX0_wrongSheet_28 (by decide) ?_
        refine e_iload_n dX0_wrongSheet_33 3 rfl rfl ?_
        refine e_iconst 1 dX0_wrongSheet_34 rfl ?_
        refine e_icmp_lt 44 dX0_wrongSheet_35 (by decide) (fun h35 => ?_) (fun h35 => ?_)
        · refine e_iconst 5 dX0_wrongSheet_44 rfl ?_
          refine e_goto 66 dX0_wrongSheet_45 (by decide) ?_
          refine e_ireturn dX0_wrongSheet_66 rfl rfl (Nat.zero_le _) (Nat.zero_le _) ?_
          refine ⟨?_, rfl⟩
          unfold spAsk
          rw [if_neg (not_or.mpr ⟨nI_pos (by omega), fun (z : (4 : Int32) ≤ nI y) => absurd ((nI_leN (a := 4) (by omega) (by omega)).mp z) (by omega)⟩), if_neg (fun z => z h11), ix_nI (by omega), if_neg (by rw [e3]; exact nI_pos (by omega)), if_pos (fun z => i32_lt h35 z.1)]
        · refine e_iload_n dX0_wrongSheet_38 3 rfl rfl ?_
          refine e_bipush 60 dX0_wrongSheet_39 rfl ?_
          refine e_icmp_le 48 dX0_wrongSheet_41 (by decide) (fun h41 => ?_) (fun h41 => ?_)
          · refine e_aload_n dX0_wrongSheet_48 0 rfl rfl rfl ?_
            refine e_getf (v := (.ref 1)) dX0_wrongSheet_49 rfl fX0_11 (xm_o0) rfl ?_
            refine e_iload_n dX0_wrongSheet_52 2 rfl rfl ?_
            refine e_aald (f := trF) (j := y) dX0_wrongSheet_53 xm_r1 (fun _ => rfl) rfl (by omega) (by decide) ?_
            refine e_top (congrArg rfO (trF_at (by omega))) ?_
            refine e_callV1 (As := []) (rest := []) dX0_wrongSheet_54 rfl mvX0_204 (xm_oT hy) rfl (y_manyS hm hy hs hn hTr hD) (Nat.le_of_ble_eq_true rfl) rfl rfl (Nat.le_of_ble_eq_true rfl) (Nat.zero_le _) (Nat.zero_le _) ?_
            refine e_iload_n dX0_wrongSheet_57 3 rfl rfl ?_
            refine e_icmp_ge 65 dX0_wrongSheet_58 (by decide) (fun h58 => ?_) (fun h58 => ?_)
            · refine e_iconst 0 dX0_wrongSheet_65 rfl ?_
              refine e_ireturn dX0_wrongSheet_66 rfl rfl (Nat.zero_le _) (Nat.zero_le _) ?_
              refine ⟨?_, rfl⟩
              unfold spAsk
              rw [if_neg (not_or.mpr ⟨nI_pos (by omega), fun (z : (4 : Int32) ≤ nI y) => absurd ((nI_leN (a := 4) (by omega) (by omega)).mp z) (by omega)⟩), if_neg (fun z => z h11), ix_nI (by omega), if_neg (by rw [e3]; exact nI_pos (by omega)), if_neg (fun z => z ⟨i32_nlt h35, h41⟩), e3, if_neg (i32_le h58)]
            · refine e_iconst 4 dX0_wrongSheet_61 rfl ?_
              refine e_goto 66 dX0_wrongSheet_62 (by decide) ?_
              refine e_ireturn dX0_wrongSheet_66 rfl rfl (Nat.zero_le _) (Nat.zero_le _) ?_
              refine ⟨?_, rfl⟩
              unfold spAsk
              rw [if_neg (not_or.mpr ⟨nI_pos (by omega), fun (z : (4 : Int32) ≤ nI y) => absurd ((nI_leN (a := 4) (by omega) (by omega)).mp z) (by omega)⟩), if_neg (fun z => z h11), ix_nI (by omega), if_neg (by rw [e3]; exact nI_pos (by omega)), if_neg (fun z => z ⟨i32_nlt h35, h41⟩), e3, if_pos (i32_nle h58)]
          · refine e_iconst 5 dX0_wrongSheet_44 rfl ?_
            refine e_goto 66 dX0_wrongSheet_45 (by decide) ?_
            refine e_ireturn dX0_wrongSheet_66 rfl rfl (Nat.zero_le _) (Nat.zero_le _) ?_
            refine ⟨?_, rfl⟩
            unfold spAsk
            rw [if_neg (not_or.mpr ⟨nI_pos (by omega), fun (z : (4 : Int32) ≤ nI y) => absurd ((nI_leN (a := 4) (by omega) (by omega)).mp z) (by omega)⟩), if_neg (fun z => z h11), ix_nI (by omega), if_neg (by rw [e3]; exact nI_pos (by omega)), if_pos (fun z => h41 z.2)]
    · have h11 : ¬ (IsE e τ) := h11
      refine e_if_ne_f (by decide) 19 dX0_wrongSheet_14 (by decide) ?_
      refine e_iconst 2 dX0_wrongSheet_17 rfl ?_
      refine e_ireturn dX0_wrongSheet_18 rfl rfl (Nat.zero_le _) (Nat.zero_le _) ?_
      refine ⟨?_, rfl⟩
      unfold spAsk
      rw [if_neg (not_or.mpr ⟨nI_pos (by omega), fun (z : (4 : Int32) ≤ nI y) => absurd ((nI_leN (a := 4) (by omega) (by omega)).mp z) (by omega)⟩), if_pos h11]
  · have h1 : ¬ (0 ≤ t ∧ t < 4) := h1
    refine e_if_ne_f (by decide) 9 dX0_wrongSheet_4 (by decide) ?_
    refine e_iconst 1 dX0_wrongSheet_7 rfl ?_
    refine e_ireturn dX0_wrongSheet_8 rfl rfl (Nat.zero_le _) (Nat.zero_le _) ?_
    refine ⟨?_, rfl⟩
    unfold spAsk
    rw [if_pos (if h0 : t < 0 then Or.inl h0 else Or.inr (Int32.not_lt.mp fun z => h1 ⟨Int32.not_lt.mp h0, z⟩))]

