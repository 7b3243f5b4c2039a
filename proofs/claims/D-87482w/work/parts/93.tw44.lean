/-! ===== the twin: reading cards, numbers and jumps ===== -/
set_option maxHeartbeats 4000000 in
set_option maxRecDepth 100000 in
/-- WheelTablesModel.count -/
theorem t_countB {pre post : List ACell} {τ0 : Tw} (hp : pre.length = 56) {e : Er} (hB : Bd τ0 e) (lo hi : Int32) : Ct yX4_count (ws_ yX4_count cX4_count 4 (some .int)) 2 0 0 [.ref 56, .int lo, .int hi] (TW pre τ0 post) (Q1 (some (.int 0)) (TW pre τ0 post)) noX := by
  have hb1 := hB.2.1
  have hb2 := hB.2.2.1
  refine Ct.of (ini := false) (ls := [some (.ref 56), some (.int lo), some (.int hi), none]) (by decide) (Nat.le_of_ble_eq_true rfl) (fun h => by cases h) rfl ?_
  refine e_aload_n dX4_count_0 0 rfl rfl rfl ?_
  refine e_getf (v := .int (τ0.1 33)) dX4_count_1 rfl fX4_400 (tw_o hp) rfl ?_
  refine e_top (congrArg Value.int hB.1) ?_
  refine e_if_neN e.1 19 (by omega) dX4_count_4 (by decide) (fun h4 => ?_) (fun h4 => ?_)
  · refine e_aload_n dX4_count_19 0 rfl rfl rfl ?_
    refine e_getf (v := .int (τ0.1 33)) dX4_count_20 rfl fX4_400 (tw_o hp) rfl ?_
    refine e_top (congrArg Value.int hB.1) ?_
    refine e_if_neN e.1 49 (by omega) dX4_count_23 (by decide) (fun h23 => ?_) (fun h23 => ?_)
    · refine e_aload_n dX4_count_49 0 rfl rfl rfl ?_
      refine e_getf (v := .int (τ0.1 33)) dX4_count_50 rfl fX4_400 (tw_o hp) rfl ?_
      refine e_top (congrArg Value.int hB.1) ?_
      refine e_if_leN e.1 58 (by omega) dX4_count_53 (by decide) (fun h53 => ?_) (fun h53 => ?_)
      · exact absurd h53 (by omega)
      · refine e_iconst 0 dX4_count_56 rfl ?_
        refine e_ireturn dX4_count_57 rfl rfl (Nat.zero_le _) (Nat.zero_le _) ?_
        exact ⟨rfl, rfl⟩
    · exact absurd h23 (by omega)
  · exact absurd h4 (by omega)

set_option maxHeartbeats 4000000 in
set_option maxRecDepth 100000 in
/-- WheelTablesModel.readWhole -/
theorem t_wholeB {pre post : List ACell} {τ0 : Tw} (hp : pre.length = 56) {e : Er} (hB : Bd τ0 e) (m : Int32) : Ct yX4_readWhole (ws_ yX4_readWhole cX4_readWhole 3 none) 2 0 0 [.ref 56, .int m] (TW pre τ0 post) (Q1 none (TW pre τ0 post)) noX := by
  have hb1 := hB.2.1
  have hb2 := hB.2.2.1
  refine Ct.of (ini := false) (ls := [some (.ref 56), some (.int m), none]) (by decide) (Nat.le_of_ble_eq_true rfl) (fun h => by cases h) rfl ?_
  refine e_aload_n dX4_readWhole_0 0 rfl rfl rfl ?_
  refine e_getf (v := .int (τ0.1 33)) dX4_readWhole_1 rfl fX4_400 (tw_o hp) rfl ?_
  refine e_top (congrArg Value.int hB.1) ?_
  refine e_if_leN e.1 8 (by omega) dX4_readWhole_4 (by decide) (fun h4 => ?_) (fun h4 => ?_)
  · exact absurd h4 (by omega)
  · refine e_return dX4_readWhole_7 rfl (Nat.zero_le _) (Nat.zero_le _) ?_
    exact ⟨rfl, rfl⟩

set_option maxHeartbeats 4000000 in
set_option maxRecDepth 100000 in
/-- WheelTablesModel.readWhole -/
theorem t_whole {pre post : List ACell} {τ0 : Tw} (hp : pre.length = 56) {f : Nat → Int32} {n : Nat} (hn : n ≤ 500) (e30 : τ0.1 30 = nI n) (e28 : τ0.2.2.1 28 = f) {t : Tok} (hT : TkOk τ0 t) (hW : TkW n t) (h33 : τ0.1 33 = 0) {m : Nat} (hm : m < 40) : Ct yX4_readWhole (ws_ yX4_readWhole cX4_readWhole 3 none) 2 0 0 [.ref 56, .int (nI m)] (TW pre τ0 post) (fun v0 N => ∃ τ1, N = TW pre τ1 post ∧ v0 = none ∧ Sx [33, 34, 35, 36, 37, 38] [39, 40] [] [57] τ1 τ0 ∧ Bl m τ1 τ0 ∧ ((∃ e, pzWho f n t = .inl e ∧ Bd τ1 e) ∨ ∃ x, pzWho f n t = .inr x ∧ τ1.2.2.2 57 m = x.1 ∧ τ1.1 33 = 0 ∧ TkOk τ1 x.2 ∧ TkW n x.2 ∧ x.2.1 ≤ 4 ∧ t.2.1 < x.2.2.1)) noX := by
  have hw : t.1 ≤ 4 := hW.1
  have hb1 := (bdT_b t).1
  have hb2 := (bdT_b t).2
  refine Ct.of (ini := false) (ls := [some (.ref 56), some (.int (nI m)), none]) (by decide) (Nat.le_of_ble_eq_true rfl) (fun h => by cases h) rfl ?_
  refine e_aload_n dX4_readWhole_0 0 rfl rfl rfl ?_
  refine e_getf (v := .int (τ0.1 33)) dX4_readWhole_1 rfl fX4_400 (tw_o hp) rfl ?_
  refine e_top (congrArg Value.int h33) ?_
  refine e_if_le_t 8 (by decide) dX4_readWhole_4 (by decide) ?_
  refine e_aload_n dX4_readWhole_8 0 rfl rfl rfl ?_
  refine e_bipush 45 dX4_readWhole_9 rfl ?_
  refine e_callVB (As := [.int 45]) (rest := []) dX4_readWhole_11 rfl mvX4_439 (tw_o hp) rfl (t_isSign hp 45) (Nat.le_of_ble_eq_true rfl) rfl rfl (Nat.le_of_ble_eq_true rfl) (Nat.zero_le _) (Nat.zero_le _) (fun h11 => ?_) (fun h11 => ?_)
  · have g11 : sgT t 45 := (sg_iff hT hw _).mp h11
    refine e_istore_n dX4_readWhole_14 2 rfl (ls_s (ls_1 rfl)) (Nat.le_of_ble_eq_true rfl) ?_
    refine e_iload_n dX4_readWhole_15 2 rfl rfl ?_
    refine e_if_eq_f (by decide) 23 dX4_readWhole_16 (by decide) ?_
    refine e_aload_n dX4_readWhole_19 0 rfl rfl rfl ?_
    refine e_callVQ (As := []) (rest := []) dX4_readWhole_20 rfl mvX4_412 (tw_o hp) rfl (t_nextT hp hn (by exact e30) (by exact e28) (t := t) (by exact hT) hW) (Nat.le_of_ble_eq_true rfl) rfl rfl (Nat.le_of_ble_eq_true rfl) (Nat.zero_le _) (Nat.zero_le _) (fun v0 M0 h0 _ => ?_)
    obtain ⟨τ1, rfl, rfl, hS_1, hT_1, hW_1, hw_1⟩ := h0
    have e30_1 := (hS_1.1 30 (by decide)).trans e30
    have e28_1 := (hS_1.2.2.1 28 (by simp)).trans e28
    have h33_1 := (hS_1.1 33 (by decide)).trans (show _ = _ from h33)
    refine e_aload_n dX4_readWhole_23 0 rfl rfl rfl ?_
    refine e_getf (v := .int (τ1.1 35)) dX4_readWhole_24 rfl fX4_375 (tw_o hp) rfl ?_
    refine e_top (congrArg Value.int hT_1.1) ?_
    refine e_iconst 2 dX4_readWhole_27 rfl ?_
    refine e_icmp_eqN ((nxT f n t).1) 2 36 (by omega) (by omega) dX4_readWhole_28 (by decide) (fun h28 => ?_) (fun h28 => ?_)
    · refine e_aload_n dX4_readWhole_36 0 rfl rfl rfl ?_
      refine e_getf (v := .ref 89) dX4_readWhole_37 rfl fX4_125 (tw_o hp) rfl ?_
      refine e_iload_n dX4_readWhole_40 1 rfl rfl ?_
      refine e_iload_n dX4_readWhole_41 2 rfl rfl ?_
      refine e_if_eq_f (by decide) 53 dX4_readWhole_42 (by decide) ?_
      refine e_aload_n dX4_readWhole_45 0 rfl rfl rfl ?_
      refine e_getf (v := .long (τ1.2.1 40)) dX4_readWhole_46 rfl fX4_395 (tw_o hp) rfl ?_
      refine e_top (congrArg Value.long (hT_1.2.2.2.2 (Or.inl h28))) ?_
      refine e_lneg dX4_readWhole_49 ?_
      refine e_goto 57 dX4_readWhole_50 (by decide) ?_
      refine e_last (f := τ1.2.2.2 57) (j := m) dX4_readWhole_57 (tw_a57 hp) rfl (by omega) (by decide) ?_
      rw [tw_s57 hp]
      refine e_aload_n dX4_readWhole_58 0 rfl rfl rfl ?_
      refine e_callVQ (As := []) (rest := []) dX4_readWhole_59 rfl mvX4_412 (tw_o hp) rfl (t_nextT hp hn (by exact e30_1) (by exact e28_1) (t := (nxT f n t)) (by exact hT_1) hW_1) (Nat.le_of_ble_eq_true rfl) rfl rfl (Nat.le_of_ble_eq_true rfl) (Nat.zero_le _) (Nat.zero_le _) (fun v0 M0 h0 _ => ?_)
      obtain ⟨τ2, rfl, rfl, hS_2, hT_2, hW_2, hw_2⟩ := h0
      have e30_2 := (hS_2.1 30 (by decide)).trans e30_1
      have e28_2 := (hS_2.2.2.1 28 (by simp)).trans e28_1
      have h33_2 := (hS_2.1 33 (by decide)).trans (show _ = _ from h33_1)
      refine e_return dX4_readWhole_62 rfl (Nat.zero_le _) (Nat.zero_le _) ?_
      refine ⟨_, rfl, rfl, ((hS_2.mono (by simp) (by simp) (by simp) (by simp)).trans (((hS_1.mono (by simp) (by simp) (by simp) (by simp)).trans Sx.rf).B _ (by decide))), ((Bl.of hS_2).trans (((Bl.of hS_1).trans Bl.rf).B _)), Or.inr ⟨(-(nxT f n t).2.2.2, nxT f n (nxT f n t)), ?_, ?_, h33_2, hT_2, hW_2, hw_2, ?_⟩⟩
      · rw [pzWho, if_pos g11, pzWhM, if_neg (fun z => z h28)]; rfl
      · rw [hS_2.2.2.2 57 (by simp)]
        rw [tB_ss]; exact pk_uLs ..
      · have h9 := hW.2.2.2 (by have := g11.1; omega)
        have h10 := (nxT_w (f := f) hW).2
        have h11 := hW_1.2.2.2 (by omega)
        have h12 := (nxT_w (f := f) hW_1).2
        show t.2.1 < (nxT f n (nxT f n t)).2.1
        omega
    · refine e_aload_n dX4_readWhole_31 0 rfl rfl rfl ?_
      refine e_callV0 (As := []) (rest := []) dX4_readWhole_32 rfl mvX4_409 (tw_o hp) rfl (t_wrong0 hp (t := (nxT f n t)) (by exact hT_1) hw_1 (by exact h33_1)) (Nat.le_of_ble_eq_true rfl) rfl rfl (Nat.le_of_ble_eq_true rfl) (Nat.zero_le _) (Nat.zero_le _) ?_
      refine e_return dX4_readWhole_35 rfl (Nat.zero_le _) (Nat.zero_le _) ?_
      refine ⟨_, rfl, rfl, ((((hS_1.mono (by simp) (by simp) (by simp) (by simp)).trans Sx.rf).I _ (by decide)).I _ (by decide)), ((((Bl.of hS_1).trans Bl.rf).I _ trivial).I _ trivial), Or.inl ⟨(bdT (nxT f n t)), ?_, ⟨rfl, (bdT_b (nxT f n t)).1, (bdT_b (nxT f n t)).2, rfl⟩⟩⟩
      rw [pzWho, if_pos g11, pzWhM, if_pos h28]
  · have g11 : ¬ sgT t 45 := fun z => h11 ((sg_iff hT hw _).mpr z)
    refine e_istore_n dX4_readWhole_14 2 rfl (ls_s (ls_1 rfl)) (Nat.le_of_ble_eq_true rfl) ?_
    refine e_iload_n dX4_readWhole_15 2 rfl rfl ?_
    refine e_if_eq_t 23 (by decide) dX4_readWhole_16 (by decide) ?_
    refine e_aload_n dX4_readWhole_23 0 rfl rfl rfl ?_
    refine e_getf (v := .int (τ0.1 35)) dX4_readWhole_24 rfl fX4_375 (tw_o hp) rfl ?_
    refine e_top (congrArg Value.int hT.1) ?_
    refine e_iconst 2 dX4_readWhole_27 rfl ?_
    refine e_icmp_eqN t.1 2 36 (by omega) (by omega) dX4_readWhole_28 (by decide) (fun h28 => ?_) (fun h28 => ?_)
    · refine e_aload_n dX4_readWhole_36 0 rfl rfl rfl ?_
      refine e_getf (v := .ref 89) dX4_readWhole_37 rfl fX4_125 (tw_o hp) rfl ?_
      refine e_iload_n dX4_readWhole_40 1 rfl rfl ?_
      refine e_iload_n dX4_readWhole_41 2 rfl rfl ?_
      refine e_if_eq_t 53 (by decide) dX4_readWhole_42 (by decide) ?_
      refine e_aload_n dX4_readWhole_53 0 rfl rfl rfl ?_
      refine e_getf (v := .long (τ0.2.1 40)) dX4_readWhole_54 rfl fX4_395 (tw_o hp) rfl ?_
      refine e_top (congrArg Value.long (hT.2.2.2.2 (Or.inl h28))) ?_
      refine e_last (f := τ0.2.2.2 57) (j := m) dX4_readWhole_57 (tw_a57 hp) rfl (by omega) (by decide) ?_
      rw [tw_s57 hp]
      refine e_aload_n dX4_readWhole_58 0 rfl rfl rfl ?_
      refine e_callVQ (As := []) (rest := []) dX4_readWhole_59 rfl mvX4_412 (tw_o hp) rfl (t_nextT hp hn (by exact e30) (by exact e28) (t := t) (by exact hT) hW) (Nat.le_of_ble_eq_true rfl) rfl rfl (Nat.le_of_ble_eq_true rfl) (Nat.zero_le _) (Nat.zero_le _) (fun v0 M0 h0 _ => ?_)
      obtain ⟨τ3, rfl, rfl, hS_3, hT_3, hW_3, hw_3⟩ := h0
      have e30_3 := (hS_3.1 30 (by decide)).trans e30
      have e28_3 := (hS_3.2.2.1 28 (by simp)).trans e28
      have h33_3 := (hS_3.1 33 (by decide)).trans (show _ = _ from h33)
      refine e_return dX4_readWhole_62 rfl (Nat.zero_le _) (Nat.zero_le _) ?_
      refine ⟨_, rfl, rfl, ((hS_3.mono (by simp) (by simp) (by simp) (by simp)).trans (Sx.rf.B _ (by decide))), ((Bl.of hS_3).trans (Bl.rf.B _)), Or.inr ⟨(t.2.2.2, nxT f n t), ?_, ?_, h33_3, hT_3, hW_3, hw_3, ?_⟩⟩
      · rw [pzWho, if_neg g11, pzWhM, if_neg (fun z => z h28)]; rfl
      · rw [hS_3.2.2.2 57 (by simp)]
        rw [tB_ss]; exact pk_uLs ..
      · have h9 := hW.2.2.2 (by omega)
        have h10 := (nxT_w (f := f) hW).2
        show t.2.1 < (nxT f n t).2.1
        omega
    · refine e_aload_n dX4_readWhole_31 0 rfl rfl rfl ?_
      refine e_callV0 (As := []) (rest := []) dX4_readWhole_32 rfl mvX4_409 (tw_o hp) rfl (t_wrong0 hp (t := t) (by exact hT) hw (by exact h33)) (Nat.le_of_ble_eq_true rfl) rfl rfl (Nat.le_of_ble_eq_true rfl) (Nat.zero_le _) (Nat.zero_le _) ?_
      refine e_return dX4_readWhole_35 rfl (Nat.zero_le _) (Nat.zero_le _) ?_
      refine ⟨_, rfl, rfl, ((Sx.rf.I _ (by decide)).I _ (by decide)), ((Bl.rf.I _ trivial).I _ trivial), Or.inl ⟨(bdT t), ?_, ⟨rfl, (bdT_b t).1, (bdT_b t).2, rfl⟩⟩⟩
      rw [pzWho, if_neg g11, pzWhM, if_pos h28]

theorem pzCnt_eqR {f : Nat → Int32} {n lo hi : Nat} {t : Tok} {x : Nat × Tok} (h : pzCnt f n lo hi t = .inr x) {β : Type} (g : Nat × Tok → Er ⊕ β) : bdE (pzCnt f n lo hi t) g = g x := by rw [h]; rfl
theorem pzCnt_eqL {f : Nat → Int32} {n lo hi : Nat} {t : Tok} {x : Er} (h : pzCnt f n lo hi t = .inl x) {β : Type} (g : Nat × Tok → Er ⊕ β) : bdE (pzCnt f n lo hi t) g = .inl x := by rw [h]; rfl
set_option maxHeartbeats 4000000 in
set_option maxRecDepth 100000 in
/-- WheelTablesModel.readJump -/
theorem t_jump {pre post : List ACell} {τ0 : Tw} (hp : pre.length = 56) {f : Nat → Int32} {n : Nat} (hn : n ≤ 500) (e30 : τ0.1 30 = nI n) (e28 : τ0.2.2.1 28 = f) {t : Tok} (hT : TkOk τ0 t) (hW : TkW n t) (h33 : τ0.1 33 = 0) {m : Nat} (hm : m < 40) : Ct yX4_readJump (ws_ yX4_readJump cX4_readJump 3 none) 3 0 0 [.ref 56, .int (nI m)] (TW pre τ0 post) (fun v0 N => ∃ τ1, N = TW pre τ1 post ∧ v0 = none ∧ Sx [33, 34, 35, 36, 37, 38] [39, 40] [50, 54, 55] [] τ1 τ0 ∧ Bl m τ1 τ0 ∧ ((∃ e, pzJmp f n t = .inl e ∧ Bd τ1 e) ∨ ∃ x, pzJmp f n t = .inr x ∧ τ1.2.2.1 50 m = nI x.1 ∧ (x.2.1 = 0 ∧ τ1.2.2.1 54 m = τ0.2.2.1 54 m ∨ (x.2.1 = 1 ∨ x.2.1 = 2) ∧ τ1.2.2.1 54 m = nI x.2.1) ∧ τ1.2.2.1 55 m = nI t.2.1 ∧ 1 ≤ x.1 ∧ x.1 ≤ 40 ∧ τ1.1 33 = 0 ∧ TkOk τ1 x.2.2 ∧ TkW n x.2.2 ∧ x.2.2.1 ≤ 4 ∧ t.2.1 < x.2.2.2.1)) noX := by
  have hw : t.1 ≤ 4 := hW.1
  have hb1 := (bdT_b t).1
  have hb2 := (bdT_b t).2
  refine Ct.of (ini := false) (ls := [some (.ref 56), some (.int (nI m)), none]) (by decide) (Nat.le_of_ble_eq_true rfl) (fun h => by cases h) rfl ?_
  refine e_aload_n dX4_readJump_0 0 rfl rfl rfl ?_
  refine e_getf (v := .ref 87) dX4_readJump_1 rfl fX4_119 (tw_o hp) rfl ?_
  refine e_iload_n dX4_readJump_4 1 rfl rfl ?_
  refine e_aload_n dX4_readJump_5 0 rfl rfl rfl ?_
  refine e_getf (v := .int (τ0.1 36)) dX4_readJump_6 rfl fX4_369 (tw_o hp) rfl ?_
  refine e_top (congrArg Value.int hT.2.1) ?_
  refine e_iast (f := τ0.2.2.1 55) (j := m) dX4_readJump_9 (tw_a55 hp) rfl (by omega) (by decide) ?_
  rw [tw_s55 hp]
  refine e_aload_n dX4_readJump_10 0 rfl rfl rfl ?_
  refine e_getf (v := .ref 82) dX4_readJump_11 rfl fX4_104 (tw_o hp) rfl ?_
  refine e_iload_n dX4_readJump_14 1 rfl rfl ?_
  refine e_aload_n dX4_readJump_15 0 rfl rfl rfl ?_
  refine e_iconst 1 dX4_readJump_16 rfl ?_
  refine e_bipush 40 dX4_readJump_17 rfl ?_
  refine e_callVQ (As := [.int 1, .int 40]) (rest := [.int (nI m), .ref 82]) dX4_readJump_19 rfl mvX4_433 (tw_o hp) rfl (t_count hp hn (by exact e30) (by exact e28) (t := t) (by exact hT) hW (by exact h33) (lo := 1) (hi := 40) (by decide) (by decide)) (Nat.le_of_ble_eq_true rfl) rfl rfl (Nat.le_of_ble_eq_true rfl) (Nat.zero_le _) (Nat.zero_le _) (fun v0 M0 h0 _ => ?_)
  obtain ⟨τ1, rfl, hS_1, h0⟩ := h0
  have e30_1 := (hS_1.1 30 (by decide)).trans e30
  have e28_1 := (hS_1.2.2.1 28 (by simp)).trans e28
  rcases h0 with ⟨e_1, eq_1, rfl, hB_1⟩ | ⟨x_1, eq_1, rfl, h33_1, hT_1, hW_1, hw_1, hl_1, hu_1, hp_1⟩
  · have hb1_ := hB_1.2.1
    have hb2_ := hB_1.2.2.1
    refine e_iast (f := τ1.2.2.1 50) (j := m) dX4_readJump_22 (tw_a50 hp) rfl (by omega) (by decide) ?_
    rw [tw_s50 hp]
    refine e_aload_n dX4_readJump_23 0 rfl rfl rfl ?_
    refine e_getf (v := .int (τ1.1 33)) dX4_readJump_24 rfl fX4_400 (tw_o hp) rfl ?_
    refine e_top (congrArg Value.int hB_1.1) ?_
    refine e_if_gtN e_1.1 47 (by omega) dX4_readJump_27 (by decide) (fun h27 => ?_) (fun h27 => ?_)
    · refine e_return dX4_readJump_47 rfl (Nat.zero_le _) (Nat.zero_le _) ?_
      refine ⟨_, rfl, rfl, (((hS_1.mono (by simp) (by simp) (by simp) (by simp)).trans (Sx.rf.A _ (by decide))).A _ (by decide)), (((Bl.of hS_1).trans (Bl.rf.A _)).A _), Or.inl ⟨e_1, ?_, hB_1⟩⟩
      rw [pzJmp, pzCnt_eqL eq_1]
    · exact absurd h27 (by omega)
  · refine e_iast (f := τ1.2.2.1 50) (j := m) dX4_readJump_22 (tw_a50 hp) rfl (by omega) (by decide) ?_
    rw [tw_s50 hp]
    refine e_aload_n dX4_readJump_23 0 rfl rfl rfl ?_
    refine e_getf (v := .int (τ1.1 33)) dX4_readJump_24 rfl fX4_400 (tw_o hp) rfl ?_
    refine e_top (congrArg Value.int h33_1) ?_
    refine e_if_gt_f (by decide) 47 dX4_readJump_27 (by decide) ?_
    refine e_aload_n dX4_readJump_30 0 rfl rfl rfl ?_
    refine e_bipush 105 dX4_readJump_31 rfl ?_
    refine e_bipush 102 dX4_readJump_33 rfl ?_
    refine e_iconst 0 dX4_readJump_35 rfl ?_
    refine e_iconst 0 dX4_readJump_36 rfl ?_
    refine e_iconst 0 dX4_readJump_37 rfl ?_
    refine e_callS1 (As := [.int 105, .int 102, .int 0, .int 0, .int 0]) (rest := [.ref 56]) dX4_readJump_38 rfl msX4_415 (t_spelled 105 102 0 0 0) (Nat.le_of_ble_eq_true rfl) rfl rfl (Nat.le_of_ble_eq_true rfl) (Nat.zero_le _) (Nat.zero_le _) ?_
    refine e_callVB (As := [.long (spW 105 102 0 0 0)]) (rest := []) dX4_readJump_41 rfl mvX4_419 (tw_o hp) rfl (t_isWord hp (spW 105 102 0 0 0)) (Nat.le_of_ble_eq_true rfl) rfl rfl (Nat.le_of_ble_eq_true rfl) (Nat.zero_le _) (Nat.zero_le _) (fun h41 => ?_) (fun h41 => ?_)
    · have g41 : wdT x_1.2 (spW 105 102 0 0 0) := (wd_iff hT_1 hw_1 _).mp h41
      refine e_if_ne_t 48 (by decide) dX4_readJump_44 (by decide) ?_
      refine e_aload_n dX4_readJump_48 0 rfl rfl rfl ?_
      refine e_callVQ (As := []) (rest := []) dX4_readJump_49 rfl mvX4_412 (tw_o hp) rfl (t_nextT hp hn (by exact e30_1) (by exact e28_1) (t := x_1.2) (by exact hT_1) hW_1) (Nat.le_of_ble_eq_true rfl) rfl rfl (Nat.le_of_ble_eq_true rfl) (Nat.zero_le _) (Nat.zero_le _) (fun v0 M0 h0 _ => ?_)
      obtain ⟨τ2, rfl, rfl, hS_2, hT_2, hW_2, hw_2⟩ := h0
      have e30_2 := (hS_2.1 30 (by decide)).trans e30_1
      have e28_2 := (hS_2.2.2.1 28 (by simp)).trans e28_1
      have h33_2 := (hS_2.1 33 (by decide)).trans (show _ = _ from h33_1)
      refine e_aload_n dX4_readJump_52 0 rfl rfl rfl ?_
      refine e_bipush 117 dX4_readJump_53 rfl ?_
      refine e_bipush 112 dX4_readJump_55 rfl ?_
      refine e_iconst 0 dX4_readJump_57 rfl ?_
      refine e_iconst 0 dX4_readJump_58 rfl ?_
      refine e_iconst 0 dX4_readJump_59 rfl ?_
      refine e_callS1 (As := [.int 117, .int 112, .int 0, .int 0, .int 0]) (rest := [.ref 56]) dX4_readJump_60 rfl msX4_415 (t_spelled 117 112 0 0 0) (Nat.le_of_ble_eq_true rfl) rfl rfl (Nat.le_of_ble_eq_true rfl) (Nat.zero_le _) (Nat.zero_le _) ?_
      refine e_callVB (As := [.long (spW 117 112 0 0 0)]) (rest := []) dX4_readJump_63 rfl mvX4_419 (tw_o hp) rfl (t_isWord hp (spW 117 112 0 0 0)) (Nat.le_of_ble_eq_true rfl) rfl rfl (Nat.le_of_ble_eq_true rfl) (Nat.zero_le _) (Nat.zero_le _) (fun h63 => ?_) (fun h63 => ?_)
      · have g63 : wdT (nxT f n x_1.2) (spW 117 112 0 0 0) := (wd_iff hT_2 hw_2 _).mp h63
        refine e_istore_n dX4_readJump_66 2 rfl (ls_s (ls_1 rfl)) (Nat.le_of_ble_eq_true rfl) ?_
        refine e_iload_n dX4_readJump_67 2 rfl rfl ?_
        refine e_if_ne_t 95 (by decide) dX4_readJump_68 (by decide) ?_
        refine e_aload_n dX4_readJump_95 0 rfl rfl rfl ?_
        refine e_getf (v := .ref 86) dX4_readJump_96 rfl fX4_116 (tw_o hp) rfl ?_
        refine e_iload_n dX4_readJump_99 1 rfl rfl ?_
        refine e_iload_n dX4_readJump_100 2 rfl rfl ?_
        refine e_if_eq_f (by decide) 108 dX4_readJump_101 (by decide) ?_
        refine e_iconst 1 dX4_readJump_104 rfl ?_
        refine e_goto 109 dX4_readJump_105 (by decide) ?_
        refine e_iast (f := τ2.2.2.1 54) (j := m) dX4_readJump_109 (tw_a54 hp) rfl (by omega) (by decide) ?_
        rw [tw_s54 hp]
        refine e_aload_n dX4_readJump_110 0 rfl rfl rfl ?_
        refine e_callVQ (As := []) (rest := []) dX4_readJump_111 rfl mvX4_412 (tw_o hp) rfl (t_nextT hp hn (by exact e30_2) (by exact e28_2) (t := (nxT f n x_1.2)) (by exact hT_2) hW_2) (Nat.le_of_ble_eq_true rfl) rfl rfl (Nat.le_of_ble_eq_true rfl) (Nat.zero_le _) (Nat.zero_le _) (fun v0 M0 h0 _ => ?_)
        obtain ⟨τ3, rfl, rfl, hS_3, hT_3, hW_3, hw_3⟩ := h0
        have e30_3 := (hS_3.1 30 (by decide)).trans e30_2
        have e28_3 := (hS_3.2.2.1 28 (by simp)).trans e28_2
        have h33_3 := (hS_3.1 33 (by decide)).trans (show _ = _ from h33_2)
        refine e_return dX4_readJump_114 rfl (Nat.zero_le _) (Nat.zero_le _) ?_
        refine ⟨_, rfl, rfl, ((hS_3.mono (by simp) (by simp) (by simp) (by simp)).trans (((hS_2.mono (by simp) (by simp) (by simp) (by simp)).trans (((hS_1.mono (by simp) (by simp) (by simp) (by simp)).trans (Sx.rf.A _ (by decide))).A _ (by decide))).A _ (by decide))), ((Bl.of hS_3).trans (((Bl.of hS_2).trans (((Bl.of hS_1).trans (Bl.rf.A _)).A _)).A _)), Or.inr ⟨(x_1.1, 1, nxT f n (nxT f n x_1.2)), ?_, ?_, Or.inr ⟨Or.inl rfl, ?_⟩, ?_, hl_1, hu_1, h33_3, hT_3, hW_3, hw_3, ?_⟩⟩
        · rw [pzJmp, pzCnt_eqR eq_1, pzJm2, if_pos g41, pzIf, if_pos g63]
        · rw [hS_3.2.2.1 50 (by simp)]
          rw [tA_sn (by decide), hS_2.2.2.1 50 (by simp)]
          rw [tA_ss]; exact pk_us ..
        · rw [hS_3.2.2.1 54 (by simp)]
          rw [tA_ss]; exact pk_us ..
        · rw [hS_3.2.2.1 55 (by simp)]
          rw [tA_sn (by decide), hS_2.2.2.1 55 (by simp)]
          rw [tA_sn (by decide), hS_1.2.2.1 55 (by simp)]
          rw [tA_ss]; exact pk_us ..
        · have h9 := hW_1.2.2.2 (by have := g41.1; omega)
          have h10 := (nxT_w (f := f) hW_1).2
          have h11 := hW_2.2.2.2 (by have := g63.1; omega)
          have h12 := (nxT_w (f := f) hW_2).2
          show t.2.1 < (nxT f n (nxT f n x_1.2)).2.1
          omega
      · have g63 : ¬ wdT (nxT f n x_1.2) (spW 117 112 0 0 0) := fun z => h63 ((wd_iff hT_2 hw_2 _).mpr z)
        refine e_istore_n dX4_readJump_66 2 rfl (ls_s (ls_1 rfl)) (Nat.le_of_ble_eq_true rfl) ?_
        refine e_iload_n dX4_readJump_67 2 rfl rfl ?_
        refine e_if_ne_f (by decide) 95 dX4_readJump_68 (by decide) ?_
        refine e_aload_n dX4_readJump_71 0 rfl rfl rfl ?_
        refine e_bipush 100 dX4_readJump_72 rfl ?_
        refine e_bipush 111 dX4_readJump_74 rfl ?_
        refine e_bipush 119 dX4_readJump_76 rfl ?_
        refine e_bipush 110 dX4_readJump_78 rfl ?_
        refine e_iconst 0 dX4_readJump_80 rfl ?_
        refine e_callS1 (As := [.int 100, .int 111, .int 119, .int 110, .int 0]) (rest := [.ref 56]) dX4_readJump_81 rfl msX4_415 (t_spelled 100 111 119 110 0) (Nat.le_of_ble_eq_true rfl) rfl rfl (Nat.le_of_ble_eq_true rfl) (Nat.zero_le _) (Nat.zero_le _) ?_
        refine e_callVB (As := [.long (spW 100 111 119 110 0)]) (rest := []) dX4_readJump_84 rfl mvX4_419 (tw_o hp) rfl (t_isWord hp (spW 100 111 119 110 0)) (Nat.le_of_ble_eq_true rfl) rfl rfl (Nat.le_of_ble_eq_true rfl) (Nat.zero_le _) (Nat.zero_le _) (fun h84 => ?_) (fun h84 => ?_)
        · have g84 : wdT (nxT f n x_1.2) (spW 100 111 119 110 0) := (wd_iff hT_2 hw_2 _).mp h84
          refine e_if_ne_t 95 (by decide) dX4_readJump_87 (by decide) ?_
          refine e_aload_n dX4_readJump_95 0 rfl rfl rfl ?_
          refine e_getf (v := .ref 86) dX4_readJump_96 rfl fX4_116 (tw_o hp) rfl ?_
          refine e_iload_n dX4_readJump_99 1 rfl rfl ?_
          refine e_iload_n dX4_readJump_100 2 rfl rfl ?_
          refine e_if_eq_t 108 (by decide) dX4_readJump_101 (by decide) ?_
          refine e_iconst 2 dX4_readJump_108 rfl ?_
          refine e_iast (f := τ2.2.2.1 54) (j := m) dX4_readJump_109 (tw_a54 hp) rfl (by omega) (by decide) ?_
          rw [tw_s54 hp]
          refine e_aload_n dX4_readJump_110 0 rfl rfl rfl ?_
          refine e_callVQ (As := []) (rest := []) dX4_readJump_111 rfl mvX4_412 (tw_o hp) rfl (t_nextT hp hn (by exact e30_2) (by exact e28_2) (t := (nxT f n x_1.2)) (by exact hT_2) hW_2) (Nat.le_of_ble_eq_true rfl) rfl rfl (Nat.le_of_ble_eq_true rfl) (Nat.zero_le _) (Nat.zero_le _) (fun v0 M0 h0 _ => ?_)
          obtain ⟨τ4, rfl, rfl, hS_4, hT_4, hW_4, hw_4⟩ := h0
          have e30_4 := (hS_4.1 30 (by decide)).trans e30_2
          have e28_4 := (hS_4.2.2.1 28 (by simp)).trans e28_2
          have h33_4 := (hS_4.1 33 (by decide)).trans (show _ = _ from h33_2)
          refine e_return dX4_readJump_114 rfl (Nat.zero_le _) (Nat.zero_le _) ?_
          refine ⟨_, rfl, rfl, ((hS_4.mono (by simp) (by simp) (by simp) (by simp)).trans (((hS_2.mono (by simp) (by simp) (by simp) (by simp)).trans (((hS_1.mono (by simp) (by simp) (by simp) (by simp)).trans (Sx.rf.A _ (by decide))).A _ (by decide))).A _ (by decide))), ((Bl.of hS_4).trans (((Bl.of hS_2).trans (((Bl.of hS_1).trans (Bl.rf.A _)).A _)).A _)), Or.inr ⟨(x_1.1, 2, nxT f n (nxT f n x_1.2)), ?_, ?_, Or.inr ⟨Or.inr rfl, ?_⟩, ?_, hl_1, hu_1, h33_4, hT_4, hW_4, hw_4, ?_⟩⟩
          · rw [pzJmp, pzCnt_eqR eq_1, pzJm2, if_pos g41, pzIf, if_neg g63, if_pos g84]
          · rw [hS_4.2.2.1 50 (by simp)]
            rw [tA_sn (by decide), hS_2.2.2.1 50 (by simp)]
            rw [tA_ss]; exact pk_us ..
          · rw [hS_4.2.2.1 54 (by simp)]
            rw [tA_ss]; exact pk_us ..
          · rw [hS_4.2.2.1 55 (by simp)]
            rw [tA_sn (by decide), hS_2.2.2.1 55 (by simp)]
            rw [tA_sn (by decide), hS_1.2.2.1 55 (by simp)]
            rw [tA_ss]; exact pk_us ..
          · have h9 := hW_1.2.2.2 (by have := g41.1; omega)
            have h10 := (nxT_w (f := f) hW_1).2
            have h11 := hW_2.2.2.2 (by have := g84.1; omega)
            have h12 := (nxT_w (f := f) hW_2).2
            show t.2.1 < (nxT f n (nxT f n x_1.2)).2.1
            omega
        · have g84 : ¬ wdT (nxT f n x_1.2) (spW 100 111 119 110 0) := fun z => h84 ((wd_iff hT_2 hw_2 _).mpr z)
          refine e_if_ne_f (by decide) 95 dX4_readJump_87 (by decide) ?_
          refine e_aload_n dX4_readJump_90 0 rfl rfl rfl ?_
          refine e_callV0 (As := []) (rest := []) dX4_readJump_91 rfl mvX4_409 (tw_o hp) rfl (t_wrong0 hp (t := (nxT f n x_1.2)) (by exact hT_2) hw_2 (by exact h33_2)) (Nat.le_of_ble_eq_true rfl) rfl rfl (Nat.le_of_ble_eq_true rfl) (Nat.zero_le _) (Nat.zero_le _) ?_
          refine e_return dX4_readJump_94 rfl (Nat.zero_le _) (Nat.zero_le _) ?_
          refine ⟨_, rfl, rfl, ((((hS_2.mono (by simp) (by simp) (by simp) (by simp)).trans (((hS_1.mono (by simp) (by simp) (by simp) (by simp)).trans (Sx.rf.A _ (by decide))).A _ (by decide))).I _ (by decide)).I _ (by decide)), ((((Bl.of hS_2).trans (((Bl.of hS_1).trans (Bl.rf.A _)).A _)).I _ trivial).I _ trivial), Or.inl ⟨(bdT (nxT f n x_1.2)), ?_, ⟨rfl, (bdT_b (nxT f n x_1.2)).1, (bdT_b (nxT f n x_1.2)).2, rfl⟩⟩⟩
          rw [pzJmp, pzCnt_eqR eq_1, pzJm2, if_pos g41, pzIf, if_neg g63, if_neg g84]
    · have g41 : ¬ wdT x_1.2 (spW 105 102 0 0 0) := fun z => h41 ((wd_iff hT_1 hw_1 _).mpr z)
      refine e_if_ne_f (by decide) 48 dX4_readJump_44 (by decide) ?_
      refine e_return dX4_readJump_47 rfl (Nat.zero_le _) (Nat.zero_le _) ?_
      refine ⟨_, rfl, rfl, (((hS_1.mono (by simp) (by simp) (by simp) (by simp)).trans (Sx.rf.A _ (by decide))).A _ (by decide)), (((Bl.of hS_1).trans (Bl.rf.A _)).A _), Or.inr ⟨(x_1.1, 0, x_1.2), ?_, ?_, Or.inl ⟨rfl, ?_⟩, ?_, hl_1, hu_1, h33_1, hT_1, hW_1, hw_1, hp_1⟩⟩
      · rw [pzJmp, pzCnt_eqR eq_1, pzJm2, if_neg g41]
      · rw [tA_ss]; exact pk_us ..
      · rw [tA_sn (by decide), hS_1.2.2.1 54 (by simp)]
        rw [tA_sn (by decide)]
      · rw [tA_sn (by decide), hS_1.2.2.1 55 (by simp)]
        rw [tA_ss]; exact pk_us ..

