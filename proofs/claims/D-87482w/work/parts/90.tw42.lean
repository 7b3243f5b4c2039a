/-! ===== the twin: a card's kind ===== -/
/-- a card's kind by its word; none -/
def knW (s : Int32) (w : Int64) : Int32 :=
  if s = 1 ∧ w = spW 112 117 116 0 0 then 0 else if s = 1 ∧ w = spW 97 100 100 0 0 then 1 else if s = 1 ∧ w = spW 115 117 98 0 0 then 2 else if s = 1 ∧ w = spW 109 117 108 0 0 then 3 else if s = 1 ∧ w = spW 100 105 118 0 0 then 4 else if s = 1 ∧ w = spW 112 114 105 110 116 then 5 else if s = 1 ∧ w = spW 98 97 99 107 0 then 6 else if s = 1 ∧ w = spW 111 110 0 0 0 then 7 else -1
set_option maxHeartbeats 4000000 in
set_option maxRecDepth 100000 in
/-- WheelTablesModel.cardKind -/
theorem t_cardKind {pre post : List ACell} {τ : Tw} (hp : pre.length = 56) : Ct yX4_cardKind (ws_ yX4_cardKind cX4_cardKind 1 (some .int)) 1 0 0 [.ref 56] (TW pre τ post) (Q1 (some (.int (knW (τ.1 35) (τ.2.1 39)))) (TW pre τ post)) noX := by
  refine Ct.of (ini := false) (ls := [some (.ref 56)]) (by decide) (Nat.le_of_ble_eq_true rfl) (fun h => by cases h) rfl ?_
  refine e_aload_n dX4_cardKind_0 0 rfl rfl rfl ?_
  refine e_bipush 112 dX4_cardKind_1 rfl ?_
  refine e_bipush 117 dX4_cardKind_3 rfl ?_
  refine e_bipush 116 dX4_cardKind_5 rfl ?_
  refine e_iconst 0 dX4_cardKind_7 rfl ?_
  refine e_iconst 0 dX4_cardKind_8 rfl ?_
  refine e_callS1 (As := [.int 112, .int 117, .int 116, .int 0, .int 0]) (rest := [.ref 56]) dX4_cardKind_9 rfl msX4_415 (t_spelled 112 117 116 0 0) (Nat.le_of_ble_eq_true rfl) rfl rfl (Nat.le_of_ble_eq_true rfl) (Nat.zero_le _) (Nat.zero_le _) ?_
  refine e_callVB (As := [.long (spW 112 117 116 0 0)]) (rest := []) dX4_cardKind_12 rfl mvX4_419 (tw_o hp) rfl (t_isWord hp (spW 112 117 116 0 0)) (Nat.le_of_ble_eq_true rfl) rfl rfl (Nat.le_of_ble_eq_true rfl) (Nat.zero_le _) (Nat.zero_le _) (fun h12 => ?_) (fun h12 => ?_)
  · have h12 : (τ.1 35 = 1 ∧ τ.2.1 39 = (spW 112 117 116 0 0)) := h12
    refine e_if_eq_f (by decide) 20 dX4_cardKind_15 (by decide) ?_
    refine e_iconst 0 dX4_cardKind_18 rfl ?_
    refine e_ireturn dX4_cardKind_19 rfl rfl (Nat.zero_le _) (Nat.zero_le _) ?_
    refine ⟨?_, rfl⟩
    rw [knW, if_pos h12]
  · have h12 : ¬ (τ.1 35 = 1 ∧ τ.2.1 39 = (spW 112 117 116 0 0)) := h12
    refine e_if_eq_t 20 (by decide) dX4_cardKind_15 (by decide) ?_
    refine e_aload_n dX4_cardKind_20 0 rfl rfl rfl ?_
    refine e_bipush 97 dX4_cardKind_21 rfl ?_
    refine e_bipush 100 dX4_cardKind_23 rfl ?_
    refine e_bipush 100 dX4_cardKind_25 rfl ?_
    refine e_iconst 0 dX4_cardKind_27 rfl ?_
    refine e_iconst 0 dX4_cardKind_28 rfl ?_
    refine e_callS1 (As := [.int 97, .int 100, .int 100, .int 0, .int 0]) (rest := [.ref 56]) dX4_cardKind_29 rfl msX4_415 (t_spelled 97 100 100 0 0) (Nat.le_of_ble_eq_true rfl) rfl rfl (Nat.le_of_ble_eq_true rfl) (Nat.zero_le _) (Nat.zero_le _) ?_
    refine e_callVB (As := [.long (spW 97 100 100 0 0)]) (rest := []) dX4_cardKind_32 rfl mvX4_419 (tw_o hp) rfl (t_isWord hp (spW 97 100 100 0 0)) (Nat.le_of_ble_eq_true rfl) rfl rfl (Nat.le_of_ble_eq_true rfl) (Nat.zero_le _) (Nat.zero_le _) (fun h32 => ?_) (fun h32 => ?_)
    · have h32 : (τ.1 35 = 1 ∧ τ.2.1 39 = (spW 97 100 100 0 0)) := h32
      refine e_if_eq_f (by decide) 40 dX4_cardKind_35 (by decide) ?_
      refine e_iconst 1 dX4_cardKind_38 rfl ?_
      refine e_ireturn dX4_cardKind_39 rfl rfl (Nat.zero_le _) (Nat.zero_le _) ?_
      refine ⟨?_, rfl⟩
      rw [knW, if_neg h12, if_pos h32]
    · have h32 : ¬ (τ.1 35 = 1 ∧ τ.2.1 39 = (spW 97 100 100 0 0)) := h32
      refine e_if_eq_t 40 (by decide) dX4_cardKind_35 (by decide) ?_
      refine e_aload_n dX4_cardKind_40 0 rfl rfl rfl ?_
      refine e_bipush 115 dX4_cardKind_41 rfl ?_
      refine e_bipush 117 dX4_cardKind_43 rfl ?_
      refine e_bipush 98 dX4_cardKind_45 rfl ?_
      refine e_iconst 0 dX4_cardKind_47 rfl ?_
      refine e_iconst 0 dX4_cardKind_48 rfl ?_
      refine e_callS1 (As := [.int 115, .int 117, .int 98, .int 0, .int 0]) (rest := [.ref 56]) dX4_cardKind_49 rfl msX4_415 (t_spelled 115 117 98 0 0) (Nat.le_of_ble_eq_true rfl) rfl rfl (Nat.le_of_ble_eq_true rfl) (Nat.zero_le _) (Nat.zero_le _) ?_
      refine e_callVB (As := [.long (spW 115 117 98 0 0)]) (rest := []) dX4_cardKind_52 rfl mvX4_419 (tw_o hp) rfl (t_isWord hp (spW 115 117 98 0 0)) (Nat.le_of_ble_eq_true rfl) rfl rfl (Nat.le_of_ble_eq_true rfl) (Nat.zero_le _) (Nat.zero_le _) (fun h52 => ?_) (fun h52 => ?_)
      · have h52 : (τ.1 35 = 1 ∧ τ.2.1 39 = (spW 115 117 98 0 0)) := h52
        refine e_if_eq_f (by decide) 60 dX4_cardKind_55 (by decide) ?_
        refine e_iconst 2 dX4_cardKind_58 rfl ?_
        refine e_ireturn dX4_cardKind_59 rfl rfl (Nat.zero_le _) (Nat.zero_le _) ?_
        refine ⟨?_, rfl⟩
        rw [knW, if_neg h12, if_neg h32, if_pos h52]
      · have h52 : ¬ (τ.1 35 = 1 ∧ τ.2.1 39 = (spW 115 117 98 0 0)) := h52
        refine e_if_eq_t 60 (by decide) dX4_cardKind_55 (by decide) ?_
        refine e_aload_n dX4_cardKind_60 0 rfl rfl rfl ?_
        refine e_bipush 109 dX4_cardKind_61 rfl ?_
        refine e_bipush 117 dX4_cardKind_63 rfl ?_
        refine e_bipush 108 dX4_cardKind_65 rfl ?_
        refine e_iconst 0 dX4_cardKind_67 rfl ?_
        refine e_iconst 0 dX4_cardKind_68 rfl ?_
        refine e_callS1 (As := [.int 109, .int 117, .int 108, .int 0, .int 0]) (rest := [.ref 56]) dX4_cardKind_69 rfl msX4_415 (t_spelled 109 117 108 0 0) (Nat.le_of_ble_eq_true rfl) rfl rfl (Nat.le_of_ble_eq_true rfl) (Nat.zero_le _) (Nat.zero_le _) ?_
        refine e_callVB (As := [.long (spW 109 117 108 0 0)]) (rest := []) dX4_cardKind_72 rfl mvX4_419 (tw_o hp) rfl (t_isWord hp (spW 109 117 108 0 0)) (Nat.le_of_ble_eq_true rfl) rfl rfl (Nat.le_of_ble_eq_true rfl) (Nat.zero_le _) (Nat.zero_le _) (fun h72 => ?_) (fun h72 => ?_)
        · have h72 : (τ.1 35 = 1 ∧ τ.2.1 39 = (spW 109 117 108 0 0)) := h72
          refine e_if_eq_f (by decide) 80 dX4_cardKind_75 (by decide) ?_
          refine e_iconst 3 dX4_cardKind_78 rfl ?_
          refine e_ireturn dX4_cardKind_79 rfl rfl (Nat.zero_le _) (Nat.zero_le _) ?_
          refine ⟨?_, rfl⟩
          rw [knW, if_neg h12, if_neg h32, if_neg h52, if_pos h72]
        · have h72 : ¬ (τ.1 35 = 1 ∧ τ.2.1 39 = (spW 109 117 108 0 0)) := h72
          refine e_if_eq_t 80 (by decide) dX4_cardKind_75 (by decide) ?_
          refine e_aload_n dX4_cardKind_80 0 rfl rfl rfl ?_
          refine e_bipush 100 dX4_cardKind_81 rfl ?_
          refine e_bipush 105 dX4_cardKind_83 rfl ?_
          refine e_bipush 118 dX4_cardKind_85 rfl ?_
          refine e_iconst 0 dX4_cardKind_87 rfl ?_
          refine e_iconst 0 dX4_cardKind_88 rfl ?_
          refine e_callS1 (As := [.int 100, .int 105, .int 118, .int 0, .int 0]) (rest := [.ref 56]) dX4_cardKind_89 rfl msX4_415 (t_spelled 100 105 118 0 0) (Nat.le_of_ble_eq_true rfl) rfl rfl (Nat.le_of_ble_eq_true rfl) (Nat.zero_le _) (Nat.zero_le _) ?_
          refine e_callVB (As := [.long (spW 100 105 118 0 0)]) (rest := []) dX4_cardKind_92 rfl mvX4_419 (tw_o hp) rfl (t_isWord hp (spW 100 105 118 0 0)) (Nat.le_of_ble_eq_true rfl) rfl rfl (Nat.le_of_ble_eq_true rfl) (Nat.zero_le _) (Nat.zero_le _) (fun h92 => ?_) (fun h92 => ?_)
          · have h92 : (τ.1 35 = 1 ∧ τ.2.1 39 = (spW 100 105 118 0 0)) := h92
            refine e_if_eq_f (by decide) 100 dX4_cardKind_95 (by decide) ?_
            refine e_iconst 4 dX4_cardKind_98 rfl ?_
            refine e_ireturn dX4_cardKind_99 rfl rfl (Nat.zero_le _) (Nat.zero_le _) ?_
            refine ⟨?_, rfl⟩
            rw [knW, if_neg h12, if_neg h32, if_neg h52, if_neg h72, if_pos h92]
          · have h92 : ¬ (τ.1 35 = 1 ∧ τ.2.1 39 = (spW 100 105 118 0 0)) := h92
            refine e_if_eq_t 100 (by decide) dX4_cardKind_95 (by decide) ?_
            refine e_aload_n dX4_cardKind_100 0 rfl rfl rfl ?_
            refine e_bipush 112 dX4_cardKind_101 rfl ?_
            refine e_bipush 114 dX4_cardKind_103 rfl ?_
            refine e_bipush 105 dX4_cardKind_105 rfl ?_
            refine e_bipush 110 dX4_cardKind_107 rfl ?_
            refine e_bipush 116 dX4_cardKind_109 rfl ?_
            refine e_callS1 (As := [.int 112, .int 114, .int 105, .int 110, .int 116]) (rest := [.ref 56]) dX4_cardKind_111 rfl msX4_415 (t_spelled 112 114 105 110 116) (Nat.le_of_ble_eq_true rfl) rfl rfl (Nat.le_of_ble_eq_true rfl) (Nat.zero_le _) (Nat.zero_le _) ?_
            refine e_callVB (As := [.long (spW 112 114 105 110 116)]) (rest := []) dX4_cardKind_114 rfl mvX4_419 (tw_o hp) rfl (t_isWord hp (spW 112 114 105 110 116)) (Nat.le_of_ble_eq_true rfl) rfl rfl (Nat.le_of_ble_eq_true rfl) (Nat.zero_le _) (Nat.zero_le _) (fun h114 => ?_) (fun h114 => ?_)
            · have h114 : (τ.1 35 = 1 ∧ τ.2.1 39 = (spW 112 114 105 110 116)) := h114
              refine e_if_eq_f (by decide) 122 dX4_cardKind_117 (by decide) ?_
              refine e_iconst 5 dX4_cardKind_120 rfl ?_
              refine e_ireturn dX4_cardKind_121 rfl rfl (Nat.zero_le _) (Nat.zero_le _) ?_
              refine ⟨?_, rfl⟩
              rw [knW, if_neg h12, if_neg h32, if_neg h52, if_neg h72, if_neg h92, if_pos h114]
            · have h114 : ¬ (τ.1 35 = 1 ∧ τ.2.1 39 = (spW 112 114 105 110 116)) := h114
              refine e_if_eq_t 122 (by decide) dX4_cardKind_117 (by decide) ?_
              refine e_aload_n dX4_cardKind_122 0 rfl rfl rfl ?_
              refine e_bipush 98 dX4_cardKind_123 rfl ?_
              refine e_bipush 97 dX4_cardKind_125 rfl ?_
              refine e_bipush 99 dX4_cardKind_127 rfl ?_
              refine e_bipush 107 dX4_cardKind_129 rfl ?_
              refine e_iconst 0 dX4_cardKind_131 rfl ?_
              refine e_callS1 (As := [.int 98, .int 97, .int 99, .int 107, .int 0]) (rest := [.ref 56]) dX4_cardKind_132 rfl msX4_415 (t_spelled 98 97 99 107 0) (Nat.le_of_ble_eq_true rfl) rfl rfl (Nat.le_of_ble_eq_true rfl) (Nat.zero_le _) (Nat.zero_le _) ?_
              refine e_callVB (As := [.long (spW 98 97 99 107 0)]) (rest := []) dX4_cardKind_135 rfl mvX4_419 (tw_o hp) rfl (t_isWord hp (spW 98 97 99 107 0)) (Nat.le_of_ble_eq_true rfl) rfl rfl (Nat.le_of_ble_eq_true rfl) (Nat.zero_le _) (Nat.zero_le _) (fun h135 => ?_) (fun h135 => ?_)
              · have h135 : (τ.1 35 = 1 ∧ τ.2.1 39 = (spW 98 97 99 107 0)) := h135
                refine e_if_eq_f (by decide) 144 dX4_cardKind_138 (by decide) ?_
                refine e_bipush 6 dX4_cardKind_141 rfl ?_
                refine e_ireturn dX4_cardKind_143 rfl rfl (Nat.zero_le _) (Nat.zero_le _) ?_
                refine ⟨?_, rfl⟩
                rw [knW, if_neg h12, if_neg h32, if_neg h52, if_neg h72, if_neg h92, if_neg h114, if_pos h135]
              · have h135 : ¬ (τ.1 35 = 1 ∧ τ.2.1 39 = (spW 98 97 99 107 0)) := h135
                refine e_if_eq_t 144 (by decide) dX4_cardKind_138 (by decide) ?_
                refine e_aload_n dX4_cardKind_144 0 rfl rfl rfl ?_
                refine e_bipush 111 dX4_cardKind_145 rfl ?_
                refine e_bipush 110 dX4_cardKind_147 rfl ?_
                refine e_iconst 0 dX4_cardKind_149 rfl ?_
                refine e_iconst 0 dX4_cardKind_150 rfl ?_
                refine e_iconst 0 dX4_cardKind_151 rfl ?_
                refine e_callS1 (As := [.int 111, .int 110, .int 0, .int 0, .int 0]) (rest := [.ref 56]) dX4_cardKind_152 rfl msX4_415 (t_spelled 111 110 0 0 0) (Nat.le_of_ble_eq_true rfl) rfl rfl (Nat.le_of_ble_eq_true rfl) (Nat.zero_le _) (Nat.zero_le _) ?_
                refine e_callVB (As := [.long (spW 111 110 0 0 0)]) (rest := []) dX4_cardKind_155 rfl mvX4_419 (tw_o hp) rfl (t_isWord hp (spW 111 110 0 0 0)) (Nat.le_of_ble_eq_true rfl) rfl rfl (Nat.le_of_ble_eq_true rfl) (Nat.zero_le _) (Nat.zero_le _) (fun h155 => ?_) (fun h155 => ?_)
                · have h155 : (τ.1 35 = 1 ∧ τ.2.1 39 = (spW 111 110 0 0 0)) := h155
                  refine e_if_eq_f (by decide) 166 dX4_cardKind_158 (by decide) ?_
                  refine e_bipush 7 dX4_cardKind_161 rfl ?_
                  refine e_goto 167 dX4_cardKind_163 (by decide) ?_
                  refine e_ireturn dX4_cardKind_167 rfl rfl (Nat.zero_le _) (Nat.zero_le _) ?_
                  refine ⟨?_, rfl⟩
                  rw [knW, if_neg h12, if_neg h32, if_neg h52, if_neg h72, if_neg h92, if_neg h114, if_neg h135, if_pos h155]
                · have h155 : ¬ (τ.1 35 = 1 ∧ τ.2.1 39 = (spW 111 110 0 0 0)) := h155
                  refine e_if_eq_t 166 (by decide) dX4_cardKind_158 (by decide) ?_
                  refine e_iconst (-1) dX4_cardKind_166 rfl ?_
                  refine e_ireturn dX4_cardKind_167 rfl rfl (Nat.zero_le _) (Nat.zero_le _) ?_
                  refine ⟨?_, rfl⟩
                  rw [knW, if_neg h12, if_neg h32, if_neg h52, if_neg h72, if_neg h92, if_neg h114, if_neg h135, if_neg h155]

