/-! ===== the twin: partings (3) ===== -/
set_option maxHeartbeats 4000000 in
set_option maxRecDepth 100000 in
/-- WheelTablesModel.parts -/
theorem t_parts {pre post : List ACell} {τ0 : Tw} (hp : pre.length = 56) {Eg J : Nat} {AX WX JA JW JT : Nat → Nat} (hF : PrF τ0 Eg J AX WX JA JW JT) {p : Nat → Option Nat} (hpp : ∀ v, p v = mostN AX WX JA JW JT (dgt Eg J v) J) (hpb : ∀ v m, p v = some m → m ≤ 7000) : Ct yX4_parts (ws_ yX4_parts cX4_parts 7 (some .int)) 2 0 0 [.ref 56] (TW pre τ0 post) (fun v N => ∃ τ1, N = TW pre τ1 post ∧ v = some (.int (oI (bV p (Eg ^ J)))) ∧ Sx [] [] [93, 94, 95] [] τ1 τ0 ∧ ∀ b i, bst p (Eg ^ J) = some (b, i) → ∀ j, j < J → τ1.2.2.1 93 j = nI (dgt Eg J i j)) noX := by
  obtain ⟨⟨hE4, eE⟩, ⟨hJ7, eJ⟩, hEs, hJs⟩ := id hF
  refine Ct.of (ini := false) (ls := [some (.ref 56), none, none, none, none, none, none]) (by decide) (Nat.le_of_ble_eq_true rfl) (fun h => by cases h) rfl ?_
  refine e_iconst 1 dX4_parts_0 rfl ?_
  refine e_istore_n dX4_parts_1 1 rfl (ls_1 rfl) (Nat.le_of_ble_eq_true rfl) ?_
  refine e_iconst 0 dX4_parts_2 rfl ?_
  refine e_istore_n dX4_parts_3 2 rfl (ls_s (ls_1 rfl)) (Nat.le_of_ble_eq_true rfl) ?_
  refine t_parts1 (τ0 := τ0) hp hF (J + 1) 0 (by omega) (by omega) ?_
  refine e_iconst (-1) dX4_parts_25 rfl ?_
  refine e_istore_n dX4_parts_26 2 rfl (ls_s (ls_1 rfl)) (Nat.le_of_ble_eq_true rfl) ?_
  refine e_iconst 0 dX4_parts_27 rfl ?_
  refine e_istore_n dX4_parts_28 3 rfl (ls_s (ls_s (ls_1 rfl))) (Nat.le_of_ble_eq_true rfl) ?_
  exact t_parts2 (τ0 := τ0) hp hF hpp hpb (Eg ^ J + 1) 0 τ0 (by omega) (by omega) Sx.rf (fun b i h => absurd h (by simp [bst])) (fun τ1 h1 h2 => ⟨τ1, rfl, rfl, h1, h2⟩)

theorem spMost_b {ς : Tw} (hI : InvE ς) (hJ : InvJ ς) (v m : Nat) (h : spMost ς v = some m) : m ≤ 7000 := by
  obtain ⟨-, ⟨h7, -⟩, -, hj⟩ := PrF.of hI hJ
  have := mostN_le (fun j hj1 => (hj j hj1).2.2.1) (gJ ς) (Nat.le_refl _) m h
  omega
set_option maxHeartbeats 4000000 in
set_option maxRecDepth 100000 in
/-- WheelTablesModel.part -/
theorem t_part {pre post : List ACell} {τ : Tw} (hp : pre.length = 56) (hI : InvE τ) (hJ : InvJ τ) : Ct yX4_part (ws_ yX4_part cX4_part 2 (some .int)) 3 0 0 [.ref 56] (TW pre τ post) (TQi pre post (sp_part τ)) noX := by
  refine Ct.of (ini := false) (ls := [some (.ref 56), none]) (by decide) (Nat.le_of_ble_eq_true rfl) (fun h => by cases h) rfl ?_
  refine e_aload_n dX4_part_0 0 rfl rfl rfl ?_
  refine e_iconst 0 dX4_part_1 rfl ?_
  refine e_tputI dX4_part_2 rfl pX4_212 rfl hp (Nat.le_of_ble_eq_true rfl) (tw_f1 _) ?_
  refine e_aload_n dX4_part_5 0 rfl rfl rfl ?_
  refine e_iconst 0 dX4_part_6 rfl ?_
  refine e_tputI dX4_part_7 rfl pX4_215 rfl hp (Nat.le_of_ble_eq_true rfl) (tw_f0 _) ?_
  refine e_aload_n dX4_part_10 0 rfl rfl rfl ?_
  refine e_callVQ (As := []) (rest := []) dX4_part_11 rfl mvX4_566 (tw_o hp) rfl (t_parts (τ0 := tI (tI τ 1 0) 0 0) (Eg := gE τ) (J := gJ τ) hp (p := spMost τ) (by exact PrF.of hI hJ) (fun v => rfl) (spMost_b hI hJ)) (Nat.le_of_ble_eq_true rfl) rfl rfl (Nat.le_of_ble_eq_true rfl) (Nat.zero_le _) (Nat.zero_le _) (fun v0 M0 h0 _ => ?_)
  obtain ⟨τ1, rfl, rfl, hS1, hpa⟩ := h0
  refine e_istore_n dX4_part_14 1 rfl (ls_1 rfl) (Nat.le_of_ble_eq_true rfl) ?_
  refine e_iload_n dX4_part_15 1 rfl rfl ?_
  refine e_if_ge 28 dX4_part_16 (by decide) (fun h16 => ?_) (fun h16 => ?_)
  · refine e_iload_n dX4_part_28 1 rfl rfl ?_
    refine e_ireturn dX4_part_29 rfl rfl (Nat.zero_le _) (Nat.zero_le _) ?_
    obtain ⟨b, eb, eb1⟩ := oI_pos (Int32.not_lt.mpr h16)
    obtain ⟨i, ebi⟩ : ∃ i, spBest τ = some (b, i) := by
      unfold bV at eb
      show ∃ i, bst (spMost τ) (gE τ ^ gJ τ) = some (b, i)
      cases hh : bst (spMost τ) (gE τ ^ gJ τ) with
      | none => rw [hh] at eb; exact absurd eb (by simp)
      | some z => rw [hh] at eb; obtain ⟨z1, z2⟩ := z; injection eb with e5; exact ⟨z2, by rw [← e5]⟩
    rw [eb1]
    exact TQi.q (by rw [sp_part, ebi]) ((show Sx [] [] [93, 94, 95] [] τ1 (b0 τ) from hS1).q (by decide) (by decide) (by decide))
  · refine e_aload_n dX4_part_19 0 rfl rfl rfl ?_
    refine e_bipush 9 dX4_part_20 rfl ?_
    refine e_callV1 (As := [.int 9]) (rest := []) dX4_part_22 rfl mvX4_252 (tw_o hp) rfl (t_refuse hp 9) (Nat.le_of_ble_eq_true rfl) rfl rfl (Nat.le_of_ble_eq_true rfl) (Nat.zero_le _) (Nat.zero_le _) ?_
    refine e_goto 29 dX4_part_25 (by decide) ?_
    refine e_ireturn dX4_part_29 rfl rfl (Nat.zero_le _) (Nat.zero_le _) ?_
    have hbn : spBest τ = none := by
      have h5 : bV (spMost τ) (gE τ ^ gJ τ) = none := oI_neg (fun q hq => by
        unfold bV at hq
        cases hh : bst (spMost τ) (gE τ ^ gJ τ) with
        | none => rw [hh] at hq; exact absurd hq (by simp)
        | some z => rw [hh] at hq; obtain ⟨z1, z2⟩ := z; injection hq with e5; rw [← e5]; exact spMost_b hI hJ z2 z1 (bst_lt hh).2) (Int32.not_le.mp h16)
      unfold bV at h5
      show bst (spMost τ) (gE τ ^ gJ τ) = none
      cases hh : bst (spMost τ) (gE τ ^ gJ τ) with
      | none => rfl
      | some z => rw [hh] at h5; exact absurd h5 (by simp)
    exact TQi.q (by rw [sp_part, hbn]; rfl) (((show Sx [] [] [93, 94, 95] [] τ1 (b0 τ) from hS1).q (by decide) (by decide) (by decide)).I 0 9)

set_option maxHeartbeats 4000000 in
set_option maxRecDepth 100000 in
/-- WheelTablesModel.partOf -/
theorem t_partOf {pre post : List ACell} {τ : Tw} (hp : pre.length = 56) (hI : InvE τ) (hJ : InvJ τ) (j : Int32) : Ct yX4_partOf (ws_ yX4_partOf cX4_partOf 2 (some .int)) 3 0 0 [.ref 56, .int j] (TW pre τ post) (TQi pre post (sp_partOf j τ)) noX := by
  obtain ⟨-, ⟨hJ7, eJ⟩, -, -⟩ := PrF.of hI hJ
  refine Ct.of (ini := false) (ls := [some (.ref 56), some (.int j)]) (by decide) (Nat.le_of_ble_eq_true rfl) (fun h => by cases h) rfl ?_
  refine e_aload_n dX4_partOf_0 0 rfl rfl rfl ?_
  refine e_iconst 0 dX4_partOf_1 rfl ?_
  refine e_tputI dX4_partOf_2 rfl pX4_212 rfl hp (Nat.le_of_ble_eq_true rfl) (tw_f1 _) ?_
  refine e_aload_n dX4_partOf_5 0 rfl rfl rfl ?_
  refine e_iconst 0 dX4_partOf_6 rfl ?_
  refine e_tputI dX4_partOf_7 rfl pX4_215 rfl hp (Nat.le_of_ble_eq_true rfl) (tw_f0 _) ?_
  refine e_iload_n dX4_partOf_10 1 rfl rfl ?_
  refine e_i2l dX4_partOf_11 ?_
  refine e_lconst 0 dX4_partOf_12 rfl ?_
  refine e_aload_n dX4_partOf_13 0 rfl rfl rfl ?_
  refine e_getf (v := .int (τ.1 82)) dX4_partOf_14 rfl fX4_557 (tw_o hp) rfl ?_
  refine e_iconst 1 dX4_partOf_17 rfl ?_
  refine e_isub dX4_partOf_18 ?_
  refine e_i2l dX4_partOf_19 ?_
  refine e_callSB (As := [.long j.toInt64, .long 0, .long (((τ.1 82) - 1).toInt64)]) (rest := []) dX4_partOf_20 rfl msX4_239 (t_isInI j 0 ((τ.1 82) - 1) rfl (by decide) rfl) (Nat.le_of_ble_eq_true rfl) rfl rfl (Nat.le_of_ble_eq_true rfl) (Nat.zero_le _) (Nat.zero_le _) (fun h20 => ?_) (fun h20 => ?_)
  · refine e_if_ne_t 32 (by decide) dX4_partOf_23 (by decide) ?_
    have g : 0 ≤ j ∧ j < τ.1 82 := ⟨h20.1, by rw [eJ]; exact (le_pred (by omega) j).mp (by rw [← eJ]; exact h20.2)⟩
    refine e_aload_n dX4_partOf_32 0 rfl rfl rfl ?_
    refine e_callVQ (As := []) (rest := []) dX4_partOf_33 rfl mvX4_566 (tw_o hp) rfl (t_parts (τ0 := tI (tI τ 1 0) 0 0) (Eg := gE τ) (J := gJ τ) hp (p := spMost τ) (by exact PrF.of hI hJ) (fun v => rfl) (spMost_b hI hJ)) (Nat.le_of_ble_eq_true rfl) rfl rfl (Nat.le_of_ble_eq_true rfl) (Nat.zero_le _) (Nat.zero_le _) (fun v0 M0 h0 _ => ?_)
    obtain ⟨τ1, rfl, rfl, hS1, hpa⟩ := h0
    refine e_if_ge 48 dX4_partOf_36 (by decide) (fun h36 => ?_) (fun h36 => ?_)
    · obtain ⟨q, hq, eq⟩ := in_of (x := j) (n := gJ τ) (by omega) g.1 (by rw [← eJ]; exact g.2)
      subst eq
      refine e_aload_n dX4_partOf_48 0 rfl rfl rfl ?_
      refine e_getf (v := .ref 111) dX4_partOf_49 rfl fX4_194 (tw_o hp) rfl ?_
      refine e_iload_n dX4_partOf_52 1 rfl rfl ?_
      refine e_iald (f := τ1.2.2.1 93) (j := q) dX4_partOf_53 (tw_a93 hp) rfl (by omega) (by decide) ?_
      refine e_ireturn dX4_partOf_54 rfl rfl (Nat.zero_le _) (Nat.zero_le _) ?_
      obtain ⟨b, eb, eb1⟩ := oI_pos (Int32.not_lt.mpr h36)
      obtain ⟨i, ebi⟩ : ∃ i, spBest τ = some (b, i) := by
        unfold bV at eb
        show ∃ i, bst (spMost τ) (gE τ ^ gJ τ) = some (b, i)
        cases hh : bst (spMost τ) (gE τ ^ gJ τ) with
        | none => rw [hh] at eb; exact absurd eb (by simp)
        | some z => rw [hh] at eb; obtain ⟨z1, z2⟩ := z; injection eb with e5; exact ⟨z2, by rw [← e5]⟩
      rw [hpa b i ebi q hq]
      exact TQi.q (by rw [sp_partOf, if_neg (fun z => z g), ebi, ix_nI (by omega)]) ((show Sx [] [] [93, 94, 95] [] τ1 (b0 τ) from hS1).q (by decide) (by decide) (by decide))
    · refine e_aload_n dX4_partOf_39 0 rfl rfl rfl ?_
      refine e_bipush 9 dX4_partOf_40 rfl ?_
      refine e_callV1 (As := [.int 9]) (rest := []) dX4_partOf_42 rfl mvX4_252 (tw_o hp) rfl (t_refuse hp 9) (Nat.le_of_ble_eq_true rfl) rfl rfl (Nat.le_of_ble_eq_true rfl) (Nat.zero_le _) (Nat.zero_le _) ?_
      refine e_goto 54 dX4_partOf_45 (by decide) ?_
      refine e_ireturn dX4_partOf_54 rfl rfl (Nat.zero_le _) (Nat.zero_le _) ?_
      have hbn : spBest τ = none := by
        have h5 : bV (spMost τ) (gE τ ^ gJ τ) = none := oI_neg (fun q hq => by
          unfold bV at hq
          cases hh : bst (spMost τ) (gE τ ^ gJ τ) with
          | none => rw [hh] at hq; exact absurd hq (by simp)
          | some z => rw [hh] at hq; obtain ⟨z1, z2⟩ := z; injection hq with e5; rw [← e5]; exact spMost_b hI hJ z2 z1 (bst_lt hh).2) (Int32.not_le.mp h36)
        unfold bV at h5
        show bst (spMost τ) (gE τ ^ gJ τ) = none
        cases hh : bst (spMost τ) (gE τ ^ gJ τ) with
        | none => rfl
        | some z => rw [hh] at h5; exact absurd h5 (by simp)
      exact TQi.q (by rw [sp_partOf, if_neg (fun z => z g), hbn]; rfl) (((show Sx [] [] [93, 94, 95] [] τ1 (b0 τ) from hS1).q (by decide) (by decide) (by decide)).I 0 9)
  · refine e_if_ne_f (by decide) 32 dX4_partOf_23 (by decide) ?_
    refine e_aload_n dX4_partOf_26 0 rfl rfl rfl ?_
    refine e_iconst 2 dX4_partOf_27 rfl ?_
    refine e_callV1 (As := [.int 2]) (rest := []) dX4_partOf_28 rfl mvX4_252 (tw_o hp) rfl (t_refuse hp 2) (Nat.le_of_ble_eq_true rfl) rfl rfl (Nat.le_of_ble_eq_true rfl) (Nat.zero_le _) (Nat.zero_le _) ?_
    refine e_ireturn dX4_partOf_31 rfl rfl (Nat.zero_le _) (Nat.zero_le _) ?_
    refine TQi.of ?_
    rw [sp_partOf, if_pos (fun z => h20 ⟨z.1, by rw [eJ]; have z2 := z.2; rw [eJ] at z2; exact (le_pred (by omega) j).mpr z2⟩)]
    rfl

