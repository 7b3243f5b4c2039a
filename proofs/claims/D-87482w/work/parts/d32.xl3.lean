/-! ===== the component: part, partOf ===== -/
theorem Rel.pa {own : Nat → Nat} {ξ : Xs} {dyn : List ACell} {τ : Tw} (hRel : Rel own ξ dyn τ) : gE τ ≤ 4 ∧ gJ τ ≤ 7 ∧ ξ.1 6 = nI (gE τ) ∧ ξ.1 55 = nI (gJ τ) ∧ (∀ e, e < gE τ → gA τ e ≤ 7 ∧ gW τ e ≤ 12 ∧ ∃ b fs, ξ.2.2.2.2.1 1 e = some (117 + b) ∧ dyn[b]? = some (.inr (5, .int (nI (gA τ e)) :: .int (nI (gW τ e)) :: fs))) ∧ ∀ j, j < gJ τ → (gJA τ j ≤ 7 ∧ ξ.2.2.1 49 j = nI (gJA τ j)) ∧ (gJW τ j ≤ 12 ∧ ξ.2.2.1 50 j = nI (gJW τ j)) ∧ gJT τ j ≤ 1000 ∧ ξ.2.2.1 51 j = nI (gJT τ j) := by
  obtain ⟨hI, hA, hB, hW, hP, hR, hT, hE, hC, hVT, hVJ, -⟩ := hRel
  obtain ⟨⟨h1, h2⟩, ⟨h3, h4⟩, h5, h6⟩ := PrF.of hE.1 hVJ
  refine ⟨h1, h3, (hI.at 6 5 (by decide)).trans h2, (hI.at 55 82 (by decide)).trans h4, fun e he => ?_, fun j hj => ?_⟩
  · obtain ⟨⟨a1, a2⟩, a3, a4⟩ := h5 e he
    obtain ⟨b, η, hRe, hH, hown, hn⟩ := hE.2 e he
    refine ⟨a1, a3, b, (enO (117 + b) η).drop 2, hRe, ?_⟩
    have := hH 0 _ rfl
    rw [← hn.1, ← hn.2.1]
    exact this
  · obtain ⟨⟨a1, a2⟩, ⟨a3, a4⟩, a5, a6⟩ := h6 j hj
    exact ⟨⟨a1, (congrFun (hA.at 49 90 (by decide)) j).trans a2⟩, ⟨a3, (congrFun (hA.at 50 91 (by decide)) j).trans a4⟩, a5, (congrFun (hA.at 51 92 (by decide)) j).trans a6⟩
theorem pz_sy {ξ : Xs} {L : Int32} {T P S : Nat → Int32} : Sy sI sA sB (pz ξ L T P S) ξ := (((Sy.rf.A _ rfl).A _ rfl).A _ rfl).I _ rfl
set_option maxHeartbeats 4000000 in
set_option maxRecDepth 100000 in
/-- WheelTables.hasParts -/
theorem x_hasParts {ξ : Xs} {mid dyn : List ACell} {Z J : Nat} {AX WX JA JW JT : Nat → Nat} (hm : mid.length = 61) (hE4 : Z ≤ 4) (hJ7 : J ≤ 7) (hE : ξ.1 6 = nI Z) (hJ : ξ.1 55 = nI J) (hEn : ∀ e, e < Z → AX e ≤ 7 ∧ WX e ≤ 12 ∧ ∃ b fs, ξ.2.2.2.2.1 1 e = some (117 + b) ∧ dyn[b]? = some (.inr (5, .int (nI (AX e)) :: .int (nI (WX e)) :: fs))) (hJb : ∀ j, j < J → (JA j ≤ 7 ∧ ξ.2.2.1 49 j = nI (JA j)) ∧ (JW j ≤ 12 ∧ ξ.2.2.1 50 j = nI (JW j)) ∧ JT j ≤ 1000 ∧ ξ.2.2.1 51 j = nI (JT j)) : Ct yX0_hasParts (ws_ yX0_hasParts cX0_hasParts 2 (some .boolean)) 9 0 0 [.ref 0] (XM ξ mid dyn) (fun v N => ∃ L T P S, N = XM (pz ξ L T P S) mid dyn ∧ RepB Z J L P (bst (pM AX WX JA JW JT Z J) (Z ^ J)) ∧ ((¬ L = -1 ∧ v = some (.int 1)) ∨ (L = -1 ∧ v = some (.int 0)))) noX := by
  refine Ct.of (ini := false) (ls := [some (.ref 0), none]) (by decide) (Nat.le_of_ble_eq_true rfl) (fun h => by cases h) rfl ?_
  refine e_aload_n dX0_hasParts_0 0 rfl rfl rfl ?_
  refine e_iconst (-1) dX0_hasParts_1 rfl ?_
  refine e_xputI dX0_hasParts_2 rfl pX0_490 rfl (xm_o0) (Nat.le_of_ble_eq_true rfl) (xm_f56 _) ?_
  refine e_iconst 0 dX0_hasParts_5 rfl ?_
  refine e_istore_n dX0_hasParts_6 1 rfl (ls_1 rfl) (Nat.le_of_ble_eq_true rfl) ?_
  refine e_iload_n dX0_hasParts_7 1 rfl rfl ?_
  refine e_iconst 4 dX0_hasParts_8 rfl ?_
  refine e_icmp_ge 25 dX0_hasParts_9 (by decide) (fun h => absurd h (by decide)) (fun _ => ?_)
  refine e_aload_n dX0_hasParts_12 0 rfl rfl rfl ?_
  refine e_getf (v := (.ref 51)) dX0_hasParts_13 rfl fX0_141 (xm_o0) rfl ?_
  refine e_iload_n dX0_hasParts_16 1 rfl rfl ?_
  refine e_iconst 0 dX0_hasParts_17 rfl ?_
  refine e_iast (f := ξ.2.2.1 54) (j := 0) dX0_hasParts_18 (xm_a54) rfl (by omega) (by decide) ?_
  rw [xm_s54]
  refine e_iinc 1 dX0_hasParts_19 rfl (by decide) (ls_1 rfl) (Nat.le_of_ble_eq_true rfl) ?_
  refine e_goto 7 dX0_hasParts_22 (by decide) ?_
  refine e_iload_n dX0_hasParts_7 1 rfl rfl ?_
  refine e_iconst 4 dX0_hasParts_8 rfl ?_
  refine e_icmp_ge 25 dX0_hasParts_9 (by decide) (fun h => absurd h (by decide)) (fun _ => ?_)
  refine e_aload_n dX0_hasParts_12 0 rfl rfl rfl ?_
  refine e_getf (v := (.ref 51)) dX0_hasParts_13 rfl fX0_141 (xm_o0) rfl ?_
  refine e_iload_n dX0_hasParts_16 1 rfl rfl ?_
  refine e_iconst 0 dX0_hasParts_17 rfl ?_
  refine e_iast (f := (upd (ξ.2.2.1 54) 0 0)) (j := 1) dX0_hasParts_18 (xm_a54) rfl (by omega) (by decide) ?_
  rw [xm_s54]
  refine e_iinc 2 dX0_hasParts_19 rfl (by decide) (ls_1 rfl) (Nat.le_of_ble_eq_true rfl) ?_
  refine e_goto 7 dX0_hasParts_22 (by decide) ?_
  refine e_iload_n dX0_hasParts_7 1 rfl rfl ?_
  refine e_iconst 4 dX0_hasParts_8 rfl ?_
  refine e_icmp_ge 25 dX0_hasParts_9 (by decide) (fun h => absurd h (by decide)) (fun _ => ?_)
  refine e_aload_n dX0_hasParts_12 0 rfl rfl rfl ?_
  refine e_getf (v := (.ref 51)) dX0_hasParts_13 rfl fX0_141 (xm_o0) rfl ?_
  refine e_iload_n dX0_hasParts_16 1 rfl rfl ?_
  refine e_iconst 0 dX0_hasParts_17 rfl ?_
  refine e_iast (f := (upd (upd (ξ.2.2.1 54) 0 0) 1 0)) (j := 2) dX0_hasParts_18 (xm_a54) rfl (by omega) (by decide) ?_
  rw [xm_s54]
  refine e_iinc 3 dX0_hasParts_19 rfl (by decide) (ls_1 rfl) (Nat.le_of_ble_eq_true rfl) ?_
  refine e_goto 7 dX0_hasParts_22 (by decide) ?_
  refine e_iload_n dX0_hasParts_7 1 rfl rfl ?_
  refine e_iconst 4 dX0_hasParts_8 rfl ?_
  refine e_icmp_ge 25 dX0_hasParts_9 (by decide) (fun h => absurd h (by decide)) (fun _ => ?_)
  refine e_aload_n dX0_hasParts_12 0 rfl rfl rfl ?_
  refine e_getf (v := (.ref 51)) dX0_hasParts_13 rfl fX0_141 (xm_o0) rfl ?_
  refine e_iload_n dX0_hasParts_16 1 rfl rfl ?_
  refine e_iconst 0 dX0_hasParts_17 rfl ?_
  refine e_iast (f := (upd (upd (upd (ξ.2.2.1 54) 0 0) 1 0) 2 0)) (j := 3) dX0_hasParts_18 (xm_a54) rfl (by omega) (by decide) ?_
  rw [xm_s54]
  refine e_iinc 4 dX0_hasParts_19 rfl (by decide) (ls_1 rfl) (Nat.le_of_ble_eq_true rfl) ?_
  refine e_goto 7 dX0_hasParts_22 (by decide) ?_
  refine e_iload_n dX0_hasParts_7 1 rfl rfl ?_
  refine e_iconst 4 dX0_hasParts_8 rfl ?_
  refine e_icmp_ge 25 dX0_hasParts_9 (by decide) (fun _ => ?_) (fun h => absurd h (by decide))
  refine e_aload_n dX0_hasParts_25 0 rfl rfl rfl ?_
  refine e_iconst 0 dX0_hasParts_26 rfl ?_
  refine e_iconst 0 dX0_hasParts_27 rfl ?_
  refine E_mem (M' := XM (pz ξ (-1) (ξ.2.2.1 52) (ξ.2.2.1 53) (upd (upd (upd (upd (ξ.2.2.1 54) 0 0) 1 0) 2 0) 3 0)) mid dyn) ?_ ?_
  · unfold pz
    rw [xA_xA, xA_xA, xA_xA, xA_self, xA_self]
    rfl
  have hS4 : ∀ e, e < Z → (upd (upd (upd (upd (ξ.2.2.1 54) 0 0) 1 0) 2 0) 3 0) e = nI (ldN JT (dgt Z 0 0) 0 e) := fun e he => by
    rcases (show e = 0 ∨ e = 1 ∨ e = 2 ∨ e = 3 by omega) with rfl | rfl | rfl | rfl <;> rfl
  refine e_callVQ (As := [.int 0, .int 0]) (rest := []) dX0_hasParts_28 rfl mvX0_493 (xm_o0) rfl (x_parts hm hE4 hJ7 hE hJ hEn hJb J 0 0 0 (-1) (ξ.2.2.1 52) (ξ.2.2.1 53) (upd (upd (upd (upd (ξ.2.2.1 54) 0 0) 1 0) 2 0) 3 0) (Nat.zero_add _) (fun j hj => absurd hj (Nat.not_lt_zero j)) hS4 rfl (by rw [Nat.zero_mul]; rfl)) (by show J + 1 + 1 ≤ 9; omega) rfl rfl (Nat.le_of_ble_eq_true rfl) (Nat.zero_le _) (Nat.zero_le _) (fun v0 M0 h0_ _ => ?_)
  obtain ⟨L, T, P, S, rfl, rfl, -, -, hB⟩ := h0_
  rw [Nat.zero_add, Nat.one_mul] at hB
  refine e_aload_n dX0_hasParts_31 0 rfl rfl rfl ?_
  refine e_getf (v := (.int ((pz ξ L T P S).1 56))) dX0_hasParts_32 rfl fX0_490 (xm_o0) rfl ?_
  refine e_top (w := .int L) rfl ?_
  refine e_iconst (-1) dX0_hasParts_35 rfl ?_
  refine e_icmp_eq 43 dX0_hasParts_36 (by decide) (fun h36 => ?_) (fun h36 => ?_)
  · refine e_iconst 0 dX0_hasParts_43 rfl ?_
    refine e_ireturn dX0_hasParts_44 rfl rfl (Nat.zero_le _) (Nat.zero_le _) ?_
    exact ⟨L, T, P, S, rfl, hB, Or.inr ⟨h36, rfl⟩⟩
  · refine e_iconst 1 dX0_hasParts_39 rfl ?_
    refine e_goto 44 dX0_hasParts_40 (by decide) ?_
    refine e_ireturn dX0_hasParts_44 rfl rfl (Nat.zero_le _) (Nat.zero_le _) ?_
    exact ⟨L, T, P, S, rfl, hB, Or.inl ⟨h36, rfl⟩⟩

set_option maxHeartbeats 4000000 in
set_option maxRecDepth 100000 in
/-- WheelTables.part -/
theorem x_part {ξ : Xs} {mid dyn : List ACell} {τ : Tw} {own : Nat → Nat} (hm : mid.length = 61) (hRel : Rel own ξ dyn τ) : Ct yX0_part (ws_ yX0_part cX0_part 1 (some .int)) 10 0 0 [.ref 0] (XM ξ mid dyn) (XQi mid (sp_part τ)) noX := by
  obtain ⟨hI, hA, hB, hW, hP, hR, hT, hE, hC, hV⟩ := id hRel
  obtain ⟨hE4, hJ7, hE6, hJ55, hEn, hJb⟩ := hRel.pa
  refine Ct.of (ini := false) (ls := [some (.ref 0)]) (by decide) (Nat.le_of_ble_eq_true rfl) (fun h => by cases h) rfl ?_
  refine e_aload_n dX0_part_0 0 rfl rfl rfl ?_
  refine e_callVQ (As := []) (rest := []) dX0_part_1 rfl mvX0_496 (xm_o0) rfl (x_hasParts hm hE4 hJ7 hE6 hJ55 hEn hJb) (Nat.le_of_ble_eq_true rfl) rfl rfl (Nat.le_of_ble_eq_true rfl) (Nat.zero_le _) (Nat.zero_le _) (fun v0 M0 h0_ _ => ?_)
  obtain ⟨L, T, P, S, rfl, hPB, h0_⟩ := h0_
  rcases h0_ with ⟨hL, rfl⟩ | ⟨hL, rfl⟩
  · refine e_if_eq_f (by decide) 18 dX0_part_4 (by decide) ?_
    refine e_aload_n dX0_part_7 0 rfl rfl rfl ?_
    refine e_aload_n dX0_part_8 0 rfl rfl rfl ?_
    refine e_getf (v := (.int ((pz ξ L T P S).1 56))) dX0_part_9 rfl fX0_490 (xm_o0) rfl ?_
    refine e_top (w := .int L) rfl ?_
    refine e_callV1 (As := [.int L]) (rest := []) dX0_part_12 rfl mvX0_215 (xm_o0) rfl (x_gives L) (Nat.le_of_ble_eq_true rfl) rfl rfl (Nat.le_of_ble_eq_true rfl) (Nat.zero_le _) (Nat.zero_le _) ?_
    refine e_goto 24 dX0_part_15 (by decide) ?_
    refine e_ireturn dX0_part_24 rfl rfl (Nat.zero_le _) (Nat.zero_le _) ?_
    have hsp : spBest τ = bst (pM (gA τ) (gW τ) (gJA τ) (gJW τ) (gJT τ) (gE τ) (gJ τ)) (gE τ ^ gJ τ) := rfl
    cases hb : bst (pM (gA τ) (gW τ) (gJA τ) (gJW τ) (gJT τ) (gE τ) (gJ τ)) (gE τ ^ gJ τ) with
    | none => rw [hb] at hPB; exact absurd hPB hL
    | some bi =>
      obtain ⟨B, i⟩ := bi
      rw [hb] at hPB hsp
      have eS : sp_part τ = (nI (B), b0 τ) := by
        unfold sp_part
        rw [hsp]
      refine ⟨_, _, own, rfl, ?_, by rw [eS]; exact (hRel.sq pz_sy).st0⟩
      rw [eS]
      exact congrArg (fun z => some (Value.int z)) hPB.1
  · refine e_if_eq_t 18 (by decide) dX0_part_4 (by decide) ?_
    refine e_aload_n dX0_part_18 0 rfl rfl rfl ?_
    refine e_bipush 9 dX0_part_19 rfl ?_
    refine e_callV1 (As := [.int 9]) (rest := []) dX0_part_21 rfl mvX0_169 (xm_o0) rfl (x_none 9) (Nat.le_of_ble_eq_true rfl) rfl rfl (Nat.le_of_ble_eq_true rfl) (Nat.zero_le _) (Nat.zero_le _) ?_
    refine e_ireturn dX0_part_24 rfl rfl (Nat.zero_le _) (Nat.zero_le _) ?_
    have hsp : spBest τ = bst (pM (gA τ) (gW τ) (gJA τ) (gJW τ) (gJT τ) (gE τ) (gJ τ)) (gE τ ^ gJ τ) := rfl
    cases hb : bst (pM (gA τ) (gW τ) (gJA τ) (gJW τ) (gJT τ) (gE τ) (gJ τ)) (gE τ ^ gJ τ) with
    | none =>
      rw [hb] at hsp
      have eS : sp_part τ = (-1, bE τ 9) := by
        unfold sp_part
        rw [hsp]
      exact ⟨_, _, own, rfl, by rw [eS], by rw [eS]; exact (hRel.sq pz_sy).stE 9⟩
    | some bi =>
      obtain ⟨B, i⟩ := bi
      rw [hb] at hPB
      exact absurd (hPB.1.symm.trans hL) (nIm1 (by have := hPB.2.1; omega))

set_option maxHeartbeats 4000000 in
set_option maxRecDepth 100000 in
/-- WheelTables.partOf -/
theorem x_partOf {ξ : Xs} {mid dyn : List ACell} {τ : Tw} {own : Nat → Nat} (hm : mid.length = 61) (hRel : Rel own ξ dyn τ) (j : Int32) : Ct yX0_partOf (ws_ yX0_partOf cX0_partOf 2 (some .int)) 10 0 0 [.ref 0, .int j] (XM ξ mid dyn) (XQi mid (sp_partOf j τ)) noX := by
  obtain ⟨hI, hA, hB, hW, hP, hR, hT, hE, hC, hV⟩ := id hRel
  obtain ⟨hE4, hJ7, hE6, hJ55, hEn, hJb⟩ := hRel.pa
  refine Ct.of (ini := false) (ls := [some (.ref 0), some (.int j)]) (by decide) (Nat.le_of_ble_eq_true rfl) (fun h => by cases h) rfl ?_
  refine e_iload_n dX0_partOf_0 1 rfl rfl ?_
  refine e_if_lt 12 dX0_partOf_1 (by decide) (fun h1 => ?_) (fun h1 => ?_)
  · refine e_aload_n dX0_partOf_12 0 rfl rfl rfl ?_
    refine e_iconst 2 dX0_partOf_13 rfl ?_
    refine e_callV1 (As := [.int 2]) (rest := []) dX0_partOf_14 rfl mvX0_169 (xm_o0) rfl (x_none 2) (Nat.le_of_ble_eq_true rfl) rfl rfl (Nat.le_of_ble_eq_true rfl) (Nat.zero_le _) (Nat.zero_le _) ?_
    refine e_ireturn dX0_partOf_17 rfl rfl (Nat.zero_le _) (Nat.zero_le _) ?_
    have eS : sp_partOf j τ = (-1, bE τ 2) := by
      unfold sp_partOf
      rw [if_pos (fun z => i32_lt h1 z.1)]
    exact ⟨_, _, own, rfl, by rw [eS], by rw [eS]; exact hRel.stE 2⟩
  · refine e_iload_n dX0_partOf_4 1 rfl rfl ?_
    refine e_aload_n dX0_partOf_5 0 rfl rfl rfl ?_
    refine e_getf (v := (.int (ξ.1 55))) dX0_partOf_6 rfl fX0_487 (xm_o0) rfl ?_
    refine e_top (congrArg Value.int (hI.at 55 82 (by decide))) ?_
    refine e_icmp_lt 18 dX0_partOf_9 (by decide) (fun h9 => ?_) (fun h9 => ?_)
    · have e82 : τ.1 82 = nI (gJ τ) := (hI.at 55 82 (by decide)).symm.trans hJ55
      have hj2 : 0 ≤ j ∧ j < τ.1 82 := ⟨i32_nlt h1, h9⟩
      rw [e82] at h9
      obtain ⟨q, hq, rfl⟩ := in_lt (x := j) (gJ τ) (nI_toInt (by omega)) h1 h9
      refine e_aload_n dX0_partOf_18 0 rfl rfl rfl ?_
      refine e_callVQ (As := []) (rest := []) dX0_partOf_19 rfl mvX0_496 (xm_o0) rfl (x_hasParts hm hE4 hJ7 hE6 hJ55 hEn hJb) (Nat.le_of_ble_eq_true rfl) rfl rfl (Nat.le_of_ble_eq_true rfl) (Nat.zero_le _) (Nat.zero_le _) (fun v0 M0 h0_ _ => ?_)
      obtain ⟨L, T, P, S, rfl, hPB, h0_⟩ := h0_
      rcases h0_ with ⟨hL, rfl⟩ | ⟨hL, rfl⟩
      · refine e_if_eq_f (by decide) 38 dX0_partOf_22 (by decide) ?_
        refine e_aload_n dX0_partOf_25 0 rfl rfl rfl ?_
        refine e_aload_n dX0_partOf_26 0 rfl rfl rfl ?_
        refine e_getf (v := (.ref 50)) dX0_partOf_27 rfl fX0_138 (xm_o0) rfl ?_
        refine e_iload_n dX0_partOf_30 1 rfl rfl ?_
        refine e_iald (f := (pz ξ L T P S).2.2.1 53) (j := q) dX0_partOf_31 (xm_a53) rfl (by omega) (by decide) ?_
        refine e_callV1 (As := [.int ((pz ξ L T P S).2.2.1 53 q)]) (rest := []) dX0_partOf_32 rfl mvX0_215 (xm_o0) rfl (x_gives ((pz ξ L T P S).2.2.1 53 q)) (Nat.le_of_ble_eq_true rfl) rfl rfl (Nat.le_of_ble_eq_true rfl) (Nat.zero_le _) (Nat.zero_le _) ?_
        refine e_goto 44 dX0_partOf_35 (by decide) ?_
        refine e_ireturn dX0_partOf_44 rfl rfl (Nat.zero_le _) (Nat.zero_le _) ?_
        have hsp : spBest τ = bst (pM (gA τ) (gW τ) (gJA τ) (gJW τ) (gJT τ) (gE τ) (gJ τ)) (gE τ ^ gJ τ) := rfl
        cases hb : bst (pM (gA τ) (gW τ) (gJA τ) (gJW τ) (gJT τ) (gE τ) (gJ τ)) (gE τ ^ gJ τ) with
        | none => rw [hb] at hPB; exact absurd hPB hL
        | some bi =>
          obtain ⟨B, i⟩ := bi
          rw [hb] at hPB hsp
          have eS : sp_partOf (nI q) τ = (nI (dgt (gE τ) (gJ τ) i (ix (nI q))), b0 τ) := by
            unfold sp_partOf
            rw [if_neg (fun z => z hj2), hsp]
          refine ⟨_, _, own, rfl, ?_, by rw [eS]; exact (hRel.sq pz_sy).st0⟩
          rw [eS]
          exact congrArg (fun z => some (Value.int z)) ((hPB.2.2 q hq).trans (by rw [ix_nI (show q < 2147483648 by omega)]))
      · refine e_if_eq_t 38 (by decide) dX0_partOf_22 (by decide) ?_
        refine e_aload_n dX0_partOf_38 0 rfl rfl rfl ?_
        refine e_bipush 9 dX0_partOf_39 rfl ?_
        refine e_callV1 (As := [.int 9]) (rest := []) dX0_partOf_41 rfl mvX0_169 (xm_o0) rfl (x_none 9) (Nat.le_of_ble_eq_true rfl) rfl rfl (Nat.le_of_ble_eq_true rfl) (Nat.zero_le _) (Nat.zero_le _) ?_
        refine e_ireturn dX0_partOf_44 rfl rfl (Nat.zero_le _) (Nat.zero_le _) ?_
        have hsp : spBest τ = bst (pM (gA τ) (gW τ) (gJA τ) (gJW τ) (gJT τ) (gE τ) (gJ τ)) (gE τ ^ gJ τ) := rfl
        cases hb : bst (pM (gA τ) (gW τ) (gJA τ) (gJW τ) (gJT τ) (gE τ) (gJ τ)) (gE τ ^ gJ τ) with
        | none =>
          rw [hb] at hsp
          have eS : sp_partOf (nI q) τ = (-1, bE τ 9) := by
            unfold sp_partOf
            rw [if_neg (fun z => z hj2), hsp]
          exact ⟨_, _, own, rfl, by rw [eS], by rw [eS]; exact (hRel.sq pz_sy).stE 9⟩
        | some bi =>
          obtain ⟨B, i⟩ := bi
          rw [hb] at hPB
          exact absurd (hPB.1.symm.trans hL) (nIm1 (by have := hPB.2.1; omega))
    · refine e_aload_n dX0_partOf_12 0 rfl rfl rfl ?_
      refine e_iconst 2 dX0_partOf_13 rfl ?_
      refine e_callV1 (As := [.int 2]) (rest := []) dX0_partOf_14 rfl mvX0_169 (xm_o0) rfl (x_none 2) (Nat.le_of_ble_eq_true rfl) rfl rfl (Nat.le_of_ble_eq_true rfl) (Nat.zero_le _) (Nat.zero_le _) ?_
      refine e_ireturn dX0_partOf_17 rfl rfl (Nat.zero_le _) (Nat.zero_le _) ?_
      have eS : sp_partOf j τ = (-1, bE τ 2) := by
        unfold sp_partOf
        rw [if_pos (fun z => h9 z.2)]
      exact ⟨_, _, own, rfl, by rw [eS], by rw [eS]; exact hRel.stE 2⟩

