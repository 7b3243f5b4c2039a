/-! ===== the component: a card's kind ===== -/
theorem wok_put : WOK 0 1 4 (spW 112 117 116 0 0) := by unfold WOK isLt; decide +kernel
theorem wok_add : WOK 0 5 8 (spW 97 100 100 0 0) := by unfold WOK isLt; decide +kernel
theorem wok_sub : WOK 0 9 12 (spW 115 117 98 0 0) := by unfold WOK isLt; decide +kernel
theorem wok_mul : WOK 0 13 16 (spW 109 117 108 0 0) := by unfold WOK isLt; decide +kernel
theorem wok_div : WOK 0 17 20 (spW 100 105 118 0 0) := by unfold WOK isLt; decide +kernel
theorem wok_print : WOK 0 21 26 (spW 112 114 105 110 116) := by unfold WOK isLt; decide +kernel
theorem wok_back : WOK 0 27 31 (spW 98 97 99 107 0) := by unfold WOK isLt; decide +kernel
theorem wok_on : WOK 0 32 34 (spW 111 110 0 0 0) := by unfold WOK isLt; decide +kernel
theorem wok_if : WOK 1 0 2 (spW 105 102 0 0 0) := by unfold WOK isLt; decide +kernel
theorem wok_up : WOK 2 0 2 (spW 117 112 0 0 0) := by unfold WOK isLt; decide +kernel
theorem wok_down : WOK 3 0 4 (spW 100 111 119 110 0) := by unfold WOK isLt; decide +kernel
theorem x_isWd {ξ : Xs} {mid dyn : List ACell} {f : Nat → Int32} {n : Nat} (hn : n ≤ 500) (h102 : ξ.1 102 = nI n) (hf : ξ.2.2.1 100 = f) {t : Tok} (hG : TkG f n t) (hT : TkX t ξ) {j k e : Nat} {w : Int64} (hW : WOK j k e w) : Ct yX2_is (ws_ yX2_is cX2_is 5 (some .boolean)) 4 0 0 [.ref 4, .retAddr j, .int (nI k), .int (nI e)] (XM ξ mid dyn) (QB (wdT t w) (XM ξ mid dyn)) noX := by
  rw [← QB.cg (isW_wd hG hW)]
  exact x_is3 hn h102 hf hG hT hW.1 hW.2.1.1 hW.2.1.2
theorem x_isWd1 {ξ : Xs} {mid dyn : List ACell} {f : Nat → Int32} {n : Nat} (hn : n ≤ 500) (h102 : ξ.1 102 = nI n) (hf : ξ.2.2.1 100 = f) {t : Tok} (hG : TkG f n t) (hT : TkX t ξ) {j e : Nat} {w : Int64} (hW : WOK j 0 e w) (he : glLen.getD j 0 = e) : Ct yX2_is_2 (ws_ yX2_is_2 cX2_is_2 2 (some .boolean)) 5 0 0 [.ref 4, .retAddr j] (XM ξ mid dyn) (QB (wdT t w) (XM ξ mid dyn)) noX := by
  subst he
  rw [← QB.cg (isW_wd hG hW)]
  exact x_is1 hn h102 hf hG hT hW.1
set_option maxHeartbeats 4000000 in
set_option maxRecDepth 100000 in
/-- WheelTables$Reader.kind -/
theorem x_kind {ξ : Xs} {mid dyn : List ACell} {f : Nat → Int32} {n : Nat} (hn : n ≤ 500) (h102 : ξ.1 102 = nI n) (hf : ξ.2.2.1 100 = f) {t : Tok} (hG : TkG f n t) (hT : TkX t ξ) : Ct yX2_kind (ws_ yX2_kind cX2_kind 4 (some .int)) 5 0 0 [.ref 4] (XM ξ mid dyn) (Q1 (some (.int (if knT t = 8 then -1 else nI (knT t)))) (XM ξ mid dyn)) noX := by
  refine Ct.of (ini := false) (ls := [some (.ref 4), none, none, none]) (by decide) (Nat.le_of_ble_eq_true rfl) (fun h => by cases h) rfl ?_
  refine e_iconst 0 dX2_kind_0 rfl ?_
  refine e_istore_n dX2_kind_1 1 rfl (ls_1 rfl) (Nat.le_of_ble_eq_true rfl) ?_
  refine e_iconst 1 dX2_kind_2 rfl ?_
  refine e_istore_n dX2_kind_3 2 rfl (ls_s (ls_1 rfl)) (Nat.le_of_ble_eq_true rfl) ?_
  refine e_iload_n dX2_kind_4 2 rfl rfl ?_
  refine e_ldcS (j := 0) (by decide) rfl rfl dX2_kind_5 ?_
  refine e_callVS1 (As := []) (rest := [.int 1]) dX2_kind_7 rfl mvX2_65 (by decide) rfl (s_length (j := 0) (by decide)) (Nat.le_of_ble_eq_true rfl) rfl rfl (Nat.le_of_ble_eq_true rfl) (Nat.zero_le _) (Nat.zero_le _) ?_
  refine e_top (w := .int 35) rfl ?_
  refine e_icmp_ge 55 dX2_kind_10 (by decide) (fun h => absurd h (by decide)) (fun _ => ?_)
  refine e_iload_n dX2_kind_13 2 rfl rfl ?_
  refine e_istore_n dX2_kind_14 3 rfl (ls_s (ls_s (ls_1 rfl))) (Nat.le_of_ble_eq_true rfl) ?_
  refine e_ldcS (j := 0) (by decide) rfl rfl dX2_kind_15 ?_
  refine e_iload_n dX2_kind_17 3 rfl rfl ?_
  refine e_callVS1 (As := [.int 1]) (rest := []) dX2_kind_18 rfl mvX2_59 (by decide) rfl (s_charAt (j := 0) (k := 1) (by decide) (by decide)) (Nat.le_of_ble_eq_true rfl) rfl rfl (Nat.le_of_ble_eq_true rfl) (Nat.zero_le _) (Nat.zero_le _) ?_
  refine e_top (w := .int 112) (by decide) ?_
  refine e_bipush 32 dX2_kind_21 rfl ?_
  refine e_icmp_eq 32 dX2_kind_23 (by decide) (fun h => absurd h (by decide)) (fun _ => ?_)
  refine e_iinc 2 dX2_kind_26 rfl (by decide) (ls_s (ls_s (ls_1 rfl))) (Nat.le_of_ble_eq_true rfl) ?_
  refine e_goto 15 dX2_kind_29 (by decide) ?_
  refine e_ldcS (j := 0) (by decide) rfl rfl dX2_kind_15 ?_
  refine e_iload_n dX2_kind_17 3 rfl rfl ?_
  refine e_callVS1 (As := [.int 2]) (rest := []) dX2_kind_18 rfl mvX2_59 (by decide) rfl (s_charAt (j := 0) (k := 2) (by decide) (by decide)) (Nat.le_of_ble_eq_true rfl) rfl rfl (Nat.le_of_ble_eq_true rfl) (Nat.zero_le _) (Nat.zero_le _) ?_
  refine e_top (w := .int 117) (by decide) ?_
  refine e_bipush 32 dX2_kind_21 rfl ?_
  refine e_icmp_eq 32 dX2_kind_23 (by decide) (fun h => absurd h (by decide)) (fun _ => ?_)
  refine e_iinc 3 dX2_kind_26 rfl (by decide) (ls_s (ls_s (ls_1 rfl))) (Nat.le_of_ble_eq_true rfl) ?_
  refine e_goto 15 dX2_kind_29 (by decide) ?_
  refine e_ldcS (j := 0) (by decide) rfl rfl dX2_kind_15 ?_
  refine e_iload_n dX2_kind_17 3 rfl rfl ?_
  refine e_callVS1 (As := [.int 3]) (rest := []) dX2_kind_18 rfl mvX2_59 (by decide) rfl (s_charAt (j := 0) (k := 3) (by decide) (by decide)) (Nat.le_of_ble_eq_true rfl) rfl rfl (Nat.le_of_ble_eq_true rfl) (Nat.zero_le _) (Nat.zero_le _) ?_
  refine e_top (w := .int 116) (by decide) ?_
  refine e_bipush 32 dX2_kind_21 rfl ?_
  refine e_icmp_eq 32 dX2_kind_23 (by decide) (fun h => absurd h (by decide)) (fun _ => ?_)
  refine e_iinc 4 dX2_kind_26 rfl (by decide) (ls_s (ls_s (ls_1 rfl))) (Nat.le_of_ble_eq_true rfl) ?_
  refine e_goto 15 dX2_kind_29 (by decide) ?_
  refine e_ldcS (j := 0) (by decide) rfl rfl dX2_kind_15 ?_
  refine e_iload_n dX2_kind_17 3 rfl rfl ?_
  refine e_callVS1 (As := [.int 4]) (rest := []) dX2_kind_18 rfl mvX2_59 (by decide) rfl (s_charAt (j := 0) (k := 4) (by decide) (by decide)) (Nat.le_of_ble_eq_true rfl) rfl rfl (Nat.le_of_ble_eq_true rfl) (Nat.zero_le _) (Nat.zero_le _) ?_
  refine e_top (w := .int 32) (by decide) ?_
  refine e_bipush 32 dX2_kind_21 rfl ?_
  refine e_icmp_eq 32 dX2_kind_23 (by decide) (fun _ => ?_) (fun h => absurd h (by decide))
  refine e_aload_n dX2_kind_32 0 rfl rfl rfl ?_
  refine e_ldcS (j := 0) (by decide) rfl rfl dX2_kind_33 ?_
  refine e_iload_n dX2_kind_35 2 rfl rfl ?_
  refine e_iload_n dX2_kind_36 3 rfl rfl ?_
  refine e_callVB (As := [.retAddr 0, .int 1, .int 4]) (rest := []) dX2_kind_37 rfl mvX2_69 (xm_o4) rfl (x_isWd (k := 1) (e := 4) hn h102 hf hG hT wok_put) (Nat.le_of_ble_eq_true rfl) rfl rfl (Nat.le_of_ble_eq_true rfl) (Nat.zero_le _) (Nat.zero_le _) (fun h37 => ?_) (fun h37 => ?_)
  · refine e_if_eq_f (by decide) 45 dX2_kind_40 (by decide) ?_
    refine e_iload_n dX2_kind_43 1 rfl rfl ?_
    refine e_ireturn dX2_kind_44 rfl rfl (Nat.zero_le _) (Nat.zero_le _) ?_
    have e1 : knT t = 0 := by unfold knT; rw [if_pos h37]
    rw [e1]
    exact ⟨rfl, rfl⟩
  · have hw0 := h37
    refine e_if_eq_t 45 (by decide) dX2_kind_40 (by decide) ?_
    refine e_iinc 1 dX2_kind_45 rfl (by decide) (ls_1 rfl) (Nat.le_of_ble_eq_true rfl) ?_
    refine e_iload_n dX2_kind_48 3 rfl rfl ?_
    refine e_iconst 1 dX2_kind_49 rfl ?_
    refine e_iadd dX2_kind_50 ?_
    refine e_top (w := .int 5) (by decide) ?_
    refine e_istore_n dX2_kind_51 2 rfl (ls_s (ls_1 rfl)) (Nat.le_of_ble_eq_true rfl) ?_
    refine e_goto 4 dX2_kind_52 (by decide) ?_
    refine e_iload_n dX2_kind_4 2 rfl rfl ?_
    refine e_ldcS (j := 0) (by decide) rfl rfl dX2_kind_5 ?_
    refine e_callVS1 (As := []) (rest := [.int 5]) dX2_kind_7 rfl mvX2_65 (by decide) rfl (s_length (j := 0) (by decide)) (Nat.le_of_ble_eq_true rfl) rfl rfl (Nat.le_of_ble_eq_true rfl) (Nat.zero_le _) (Nat.zero_le _) ?_
    refine e_top (w := .int 35) rfl ?_
    refine e_icmp_ge 55 dX2_kind_10 (by decide) (fun h => absurd h (by decide)) (fun _ => ?_)
    refine e_iload_n dX2_kind_13 2 rfl rfl ?_
    refine e_istore_n dX2_kind_14 3 rfl (ls_s (ls_s (ls_1 rfl))) (Nat.le_of_ble_eq_true rfl) ?_
    refine e_ldcS (j := 0) (by decide) rfl rfl dX2_kind_15 ?_
    refine e_iload_n dX2_kind_17 3 rfl rfl ?_
    refine e_callVS1 (As := [.int 5]) (rest := []) dX2_kind_18 rfl mvX2_59 (by decide) rfl (s_charAt (j := 0) (k := 5) (by decide) (by decide)) (Nat.le_of_ble_eq_true rfl) rfl rfl (Nat.le_of_ble_eq_true rfl) (Nat.zero_le _) (Nat.zero_le _) ?_
    refine e_top (w := .int 97) (by decide) ?_
    refine e_bipush 32 dX2_kind_21 rfl ?_
    refine e_icmp_eq 32 dX2_kind_23 (by decide) (fun h => absurd h (by decide)) (fun _ => ?_)
    refine e_iinc 6 dX2_kind_26 rfl (by decide) (ls_s (ls_s (ls_1 rfl))) (Nat.le_of_ble_eq_true rfl) ?_
    refine e_goto 15 dX2_kind_29 (by decide) ?_
    refine e_ldcS (j := 0) (by decide) rfl rfl dX2_kind_15 ?_
    refine e_iload_n dX2_kind_17 3 rfl rfl ?_
    refine e_callVS1 (As := [.int 6]) (rest := []) dX2_kind_18 rfl mvX2_59 (by decide) rfl (s_charAt (j := 0) (k := 6) (by decide) (by decide)) (Nat.le_of_ble_eq_true rfl) rfl rfl (Nat.le_of_ble_eq_true rfl) (Nat.zero_le _) (Nat.zero_le _) ?_
    refine e_top (w := .int 100) (by decide) ?_
    refine e_bipush 32 dX2_kind_21 rfl ?_
    refine e_icmp_eq 32 dX2_kind_23 (by decide) (fun h => absurd h (by decide)) (fun _ => ?_)
    refine e_iinc 7 dX2_kind_26 rfl (by decide) (ls_s (ls_s (ls_1 rfl))) (Nat.le_of_ble_eq_true rfl) ?_
    refine e_goto 15 dX2_kind_29 (by decide) ?_
    refine e_ldcS (j := 0) (by decide) rfl rfl dX2_kind_15 ?_
    refine e_iload_n dX2_kind_17 3 rfl rfl ?_
    refine e_callVS1 (As := [.int 7]) (rest := []) dX2_kind_18 rfl mvX2_59 (by decide) rfl (s_charAt (j := 0) (k := 7) (by decide) (by decide)) (Nat.le_of_ble_eq_true rfl) rfl rfl (Nat.le_of_ble_eq_true rfl) (Nat.zero_le _) (Nat.zero_le _) ?_
    refine e_top (w := .int 100) (by decide) ?_
    refine e_bipush 32 dX2_kind_21 rfl ?_
    refine e_icmp_eq 32 dX2_kind_23 (by decide) (fun h => absurd h (by decide)) (fun _ => ?_)
    refine e_iinc 8 dX2_kind_26 rfl (by decide) (ls_s (ls_s (ls_1 rfl))) (Nat.le_of_ble_eq_true rfl) ?_
    refine e_goto 15 dX2_kind_29 (by decide) ?_
    refine e_ldcS (j := 0) (by decide) rfl rfl dX2_kind_15 ?_
    refine e_iload_n dX2_kind_17 3 rfl rfl ?_
    refine e_callVS1 (As := [.int 8]) (rest := []) dX2_kind_18 rfl mvX2_59 (by decide) rfl (s_charAt (j := 0) (k := 8) (by decide) (by decide)) (Nat.le_of_ble_eq_true rfl) rfl rfl (Nat.le_of_ble_eq_true rfl) (Nat.zero_le _) (Nat.zero_le _) ?_
    refine e_top (w := .int 32) (by decide) ?_
    refine e_bipush 32 dX2_kind_21 rfl ?_
    refine e_icmp_eq 32 dX2_kind_23 (by decide) (fun _ => ?_) (fun h => absurd h (by decide))
    refine e_aload_n dX2_kind_32 0 rfl rfl rfl ?_
    refine e_ldcS (j := 0) (by decide) rfl rfl dX2_kind_33 ?_
    refine e_iload_n dX2_kind_35 2 rfl rfl ?_
    refine e_iload_n dX2_kind_36 3 rfl rfl ?_
    refine e_callVB (As := [.retAddr 0, .int 5, .int 8]) (rest := []) dX2_kind_37 rfl mvX2_69 (xm_o4) rfl (x_isWd (k := 5) (e := 8) hn h102 hf hG hT wok_add) (Nat.le_of_ble_eq_true rfl) rfl rfl (Nat.le_of_ble_eq_true rfl) (Nat.zero_le _) (Nat.zero_le _) (fun h37 => ?_) (fun h37 => ?_)
    · refine e_if_eq_f (by decide) 45 dX2_kind_40 (by decide) ?_
      refine e_iload_n dX2_kind_43 1 rfl rfl ?_
      refine e_ireturn dX2_kind_44 rfl rfl (Nat.zero_le _) (Nat.zero_le _) ?_
      have e1 : knT t = 1 := by unfold knT; rw [if_neg hw0, if_pos h37]
      rw [e1]
      exact ⟨rfl, rfl⟩
    · have hw1 := h37
      refine e_if_eq_t 45 (by decide) dX2_kind_40 (by decide) ?_
      refine e_iinc 2 dX2_kind_45 rfl (by decide) (ls_1 rfl) (Nat.le_of_ble_eq_true rfl) ?_
      refine e_iload_n dX2_kind_48 3 rfl rfl ?_
      refine e_iconst 1 dX2_kind_49 rfl ?_
      refine e_iadd dX2_kind_50 ?_
      refine e_top (w := .int 9) (by decide) ?_
      refine e_istore_n dX2_kind_51 2 rfl (ls_s (ls_1 rfl)) (Nat.le_of_ble_eq_true rfl) ?_
      refine e_goto 4 dX2_kind_52 (by decide) ?_
      refine e_iload_n dX2_kind_4 2 rfl rfl ?_
      refine e_ldcS (j := 0) (by decide) rfl rfl dX2_kind_5 ?_
      refine e_callVS1 (As := []) (rest := [.int 9]) dX2_kind_7 rfl mvX2_65 (by decide) rfl (s_length (j := 0) (by decide)) (Nat.le_of_ble_eq_true rfl) rfl rfl (Nat.le_of_ble_eq_true rfl) (Nat.zero_le _) (Nat.zero_le _) ?_
      refine e_top (w := .int 35) rfl ?_
      refine e_icmp_ge 55 dX2_kind_10 (by decide) (fun h => absurd h (by decide)) (fun _ => ?_)
      refine e_iload_n dX2_kind_13 2 rfl rfl ?_
      refine e_istore_n dX2_kind_14 3 rfl (ls_s (ls_s (ls_1 rfl))) (Nat.le_of_ble_eq_true rfl) ?_
      refine e_ldcS (j := 0) (by decide) rfl rfl dX2_kind_15 ?_
      refine e_iload_n dX2_kind_17 3 rfl rfl ?_
      refine e_callVS1 (As := [.int 9]) (rest := []) dX2_kind_18 rfl mvX2_59 (by decide) rfl (s_charAt (j := 0) (k := 9) (by decide) (by decide)) (Nat.le_of_ble_eq_true rfl) rfl rfl (Nat.le_of_ble_eq_true rfl) (Nat.zero_le _) (Nat.zero_le _) ?_
      refine e_top (w := .int 115) (by decide) ?_
      refine e_bipush 32 dX2_kind_21 rfl ?_
      refine e_icmp_eq 32 dX2_kind_23 (by decide) (fun h => absurd h (by decide)) (fun _ => ?_)
      refine e_iinc 10 dX2_kind_26 rfl (by decide) (ls_s (ls_s (ls_1 rfl))) (Nat.le_of_ble_eq_true rfl) ?_
      refine e_goto 15 dX2_kind_29 (by decide) ?_
      refine e_ldcS (j := 0) (by decide) rfl rfl dX2_kind_15 ?_
      refine e_iload_n dX2_kind_17 3 rfl rfl ?_
      refine e_callVS1 (As := [.int 10]) (rest := []) dX2_kind_18 rfl mvX2_59 (by decide) rfl (s_charAt (j := 0) (k := 10) (by decide) (by decide)) (Nat.le_of_ble_eq_true rfl) rfl rfl (Nat.le_of_ble_eq_true rfl) (Nat.zero_le _) (Nat.zero_le _) ?_
      refine e_top (w := .int 117) (by decide) ?_
      refine e_bipush 32 dX2_kind_21 rfl ?_
      refine e_icmp_eq 32 dX2_kind_23 (by decide) (fun h => absurd h (by decide)) (fun _ => ?_)
      refine e_iinc 11 dX2_kind_26 rfl (by decide) (ls_s (ls_s (ls_1 rfl))) (Nat.le_of_ble_eq_true rfl) ?_
      refine e_goto 15 dX2_kind_29 (by decide) ?_
      refine e_ldcS (j := 0) (by decide) rfl rfl dX2_kind_15 ?_
      refine e_iload_n dX2_kind_17 3 rfl rfl ?_
      refine e_callVS1 (As := [.int 11]) (rest := []) dX2_kind_18 rfl mvX2_59 (by decide) rfl (s_charAt (j := 0) (k := 11) (by decide) (by decide)) (Nat.le_of_ble_eq_true rfl) rfl rfl (Nat.le_of_ble_eq_true rfl) (Nat.zero_le _) (Nat.zero_le _) ?_
      refine e_top (w := .int 98) (by decide) ?_
      refine e_bipush 32 dX2_kind_21 rfl ?_
      refine e_icmp_eq 32 dX2_kind_23 (by decide) (fun h => absurd h (by decide)) (fun _ => ?_)
      refine e_iinc 12 dX2_kind_26 rfl (by decide) (ls_s (ls_s (ls_1 rfl))) (Nat.le_of_ble_eq_true rfl) ?_
      refine e_goto 15 dX2_kind_29 (by decide) ?_
      refine e_ldcS (j := 0) (by decide) rfl rfl dX2_kind_15 ?_
      refine e_iload_n dX2_kind_17 3 rfl rfl ?_
      refine e_callVS1 (As := [.int 12]) (rest := []) dX2_kind_18 rfl mvX2_59 (by decide) rfl (s_charAt (j := 0) (k := 12) (by decide) (by decide)) (Nat.le_of_ble_eq_true rfl) rfl rfl (Nat.le_of_ble_eq_true rfl) (Nat.zero_le _) (Nat.zero_le _) ?_
      refine e_top (w := .int 32) (by decide) ?_
      refine e_bipush 32 dX2_kind_21 rfl ?_
      refine e_icmp_eq 32 dX2_kind_23 (by decide) (fun _ => ?_) (fun h => absurd h (by decide))
      refine e_aload_n dX2_kind_32 0 rfl rfl rfl ?_
      refine e_ldcS (j := 0) (by decide) rfl rfl dX2_kind_33 ?_
      refine e_iload_n dX2_kind_35 2 rfl rfl ?_
      refine e_iload_n dX2_kind_36 3 rfl rfl ?_
      refine e_callVB (As := [.retAddr 0, .int 9, .int 12]) (rest := []) dX2_kind_37 rfl mvX2_69 (xm_o4) rfl (x_isWd (k := 9) (e := 12) hn h102 hf hG hT wok_sub) (Nat.le_of_ble_eq_true rfl) rfl rfl (Nat.le_of_ble_eq_true rfl) (Nat.zero_le _) (Nat.zero_le _) (fun h37 => ?_) (fun h37 => ?_)
      · refine e_if_eq_f (by decide) 45 dX2_kind_40 (by decide) ?_
        refine e_iload_n dX2_kind_43 1 rfl rfl ?_
        refine e_ireturn dX2_kind_44 rfl rfl (Nat.zero_le _) (Nat.zero_le _) ?_
        have e1 : knT t = 2 := by unfold knT; rw [if_neg hw0, if_neg hw1, if_pos h37]
        rw [e1]
        exact ⟨rfl, rfl⟩
      · have hw2 := h37
        refine e_if_eq_t 45 (by decide) dX2_kind_40 (by decide) ?_
        refine e_iinc 3 dX2_kind_45 rfl (by decide) (ls_1 rfl) (Nat.le_of_ble_eq_true rfl) ?_
        refine e_iload_n dX2_kind_48 3 rfl rfl ?_
        refine e_iconst 1 dX2_kind_49 rfl ?_
        refine e_iadd dX2_kind_50 ?_
        refine e_top (w := .int 13) (by decide) ?_
        refine e_istore_n dX2_kind_51 2 rfl (ls_s (ls_1 rfl)) (Nat.le_of_ble_eq_true rfl) ?_
        refine e_goto 4 dX2_kind_52 (by decide) ?_
        refine e_iload_n dX2_kind_4 2 rfl rfl ?_
        refine e_ldcS (j := 0) (by decide) rfl rfl dX2_kind_5 ?_
        refine e_callVS1 (As := []) (rest := [.int 13]) dX2_kind_7 rfl mvX2_65 (by decide) rfl (s_length (j := 0) (by decide)) (Nat.le_of_ble_eq_true rfl) rfl rfl (Nat.le_of_ble_eq_true rfl) (Nat.zero_le _) (Nat.zero_le _) ?_
        refine e_top (w := .int 35) rfl ?_
        refine e_icmp_ge 55 dX2_kind_10 (by decide) (fun h => absurd h (by decide)) (fun _ => ?_)
        refine e_iload_n dX2_kind_13 2 rfl rfl ?_
        refine e_istore_n dX2_kind_14 3 rfl (ls_s (ls_s (ls_1 rfl))) (Nat.le_of_ble_eq_true rfl) ?_
        refine e_ldcS (j := 0) (by decide) rfl rfl dX2_kind_15 ?_
        refine e_iload_n dX2_kind_17 3 rfl rfl ?_
        refine e_callVS1 (As := [.int 13]) (rest := []) dX2_kind_18 rfl mvX2_59 (by decide) rfl (s_charAt (j := 0) (k := 13) (by decide) (by decide)) (Nat.le_of_ble_eq_true rfl) rfl rfl (Nat.le_of_ble_eq_true rfl) (Nat.zero_le _) (Nat.zero_le _) ?_
        refine e_top (w := .int 109) (by decide) ?_
        refine e_bipush 32 dX2_kind_21 rfl ?_
        refine e_icmp_eq 32 dX2_kind_23 (by decide) (fun h => absurd h (by decide)) (fun _ => ?_)
        refine e_iinc 14 dX2_kind_26 rfl (by decide) (ls_s (ls_s (ls_1 rfl))) (Nat.le_of_ble_eq_true rfl) ?_
        refine e_goto 15 dX2_kind_29 (by decide) ?_
        refine e_ldcS (j := 0) (by decide) rfl rfl dX2_kind_15 ?_
        refine e_iload_n dX2_kind_17 3 rfl rfl ?_
        refine e_callVS1 (As := [.int 14]) (rest := []) dX2_kind_18 rfl mvX2_59 (by decide) rfl (s_charAt (j := 0) (k := 14) (by decide) (by decide)) (Nat.le_of_ble_eq_true rfl) rfl rfl (Nat.le_of_ble_eq_true rfl) (Nat.zero_le _) (Nat.zero_le _) ?_
        refine e_top (w := .int 117) (by decide) ?_
        refine e_bipush 32 dX2_kind_21 rfl ?_
        refine e_icmp_eq 32 dX2_kind_23 (by decide) (fun h => absurd h (by decide)) (fun _ => ?_)
        refine e_iinc 15 dX2_kind_26 rfl (by decide) (ls_s (ls_s (ls_1 rfl))) (Nat.le_of_ble_eq_true rfl) ?_
        refine e_goto 15 dX2_kind_29 (by decide) ?_
        refine e_ldcS (j := 0) (by decide) rfl rfl dX2_kind_15 ?_
        refine e_iload_n dX2_kind_17 3 rfl rfl ?_
        refine e_callVS1 (As := [.int 15]) (rest := []) dX2_kind_18 rfl mvX2_59 (by decide) rfl (s_charAt (j := 0) (k := 15) (by decide) (by decide)) (Nat.le_of_ble_eq_true rfl) rfl rfl (Nat.le_of_ble_eq_true rfl) (Nat.zero_le _) (Nat.zero_le _) ?_
        refine e_top (w := .int 108) (by decide) ?_
        refine e_bipush 32 dX2_kind_21 rfl ?_
        refine e_icmp_eq 32 dX2_kind_23 (by decide) (fun h => absurd h (by decide)) (fun _ => ?_)
        refine e_iinc 16 dX2_kind_26 rfl (by decide) (ls_s (ls_s (ls_1 rfl))) (Nat.le_of_ble_eq_true rfl) ?_
        refine e_goto 15 dX2_kind_29 (by decide) ?_
        refine e_ldcS (j := 0) (by decide) rfl rfl dX2_kind_15 ?_
        refine e_iload_n dX2_kind_17 3 rfl rfl ?_
        refine e_callVS1 (As := [.int 16]) (rest := []) dX2_kind_18 rfl mvX2_59 (by decide) rfl (s_charAt (j := 0) (k := 16) (by decide) (by decide)) (Nat.le_of_ble_eq_true rfl) rfl rfl (Nat.le_of_ble_eq_true rfl) (Nat.zero_le _) (Nat.zero_le _) ?_
        refine e_top (w := .int 32) (by decide) ?_
        refine e_bipush 32 dX2_kind_21 rfl ?_
        refine e_icmp_eq 32 dX2_kind_23 (by decide) (fun _ => ?_) (fun h => absurd h (by decide))
        refine e_aload_n dX2_kind_32 0 rfl rfl rfl ?_
        refine e_ldcS (j := 0) (by decide) rfl rfl dX2_kind_33 ?_
        refine e_iload_n dX2_kind_35 2 rfl rfl ?_
        refine e_iload_n dX2_kind_36 3 rfl rfl ?_
        refine e_callVB (As := [.retAddr 0, .int 13, .int 16]) (rest := []) dX2_kind_37 rfl mvX2_69 (xm_o4) rfl (x_isWd (k := 13) (e := 16) hn h102 hf hG hT wok_mul) (Nat.le_of_ble_eq_true rfl) rfl rfl (Nat.le_of_ble_eq_true rfl) (Nat.zero_le _) (Nat.zero_le _) (fun h37 => ?_) (fun h37 => ?_)
        · refine e_if_eq_f (by decide) 45 dX2_kind_40 (by decide) ?_
          refine e_iload_n dX2_kind_43 1 rfl rfl ?_
          refine e_ireturn dX2_kind_44 rfl rfl (Nat.zero_le _) (Nat.zero_le _) ?_
          have e1 : knT t = 3 := by unfold knT; rw [if_neg hw0, if_neg hw1, if_neg hw2, if_pos h37]
          rw [e1]
          exact ⟨rfl, rfl⟩
        · have hw3 := h37
          refine e_if_eq_t 45 (by decide) dX2_kind_40 (by decide) ?_
          refine e_iinc 4 dX2_kind_45 rfl (by decide) (ls_1 rfl) (Nat.le_of_ble_eq_true rfl) ?_
          refine e_iload_n dX2_kind_48 3 rfl rfl ?_
          refine e_iconst 1 dX2_kind_49 rfl ?_
          refine e_iadd dX2_kind_50 ?_
          refine e_top (w := .int 17) (by decide) ?_
          refine e_istore_n dX2_kind_51 2 rfl (ls_s (ls_1 rfl)) (Nat.le_of_ble_eq_true rfl) ?_
          refine e_goto 4 dX2_kind_52 (by decide) ?_
          refine e_iload_n dX2_kind_4 2 rfl rfl ?_
          refine e_ldcS (j := 0) (by decide) rfl rfl dX2_kind_5 ?_
          refine e_callVS1 (As := []) (rest := [.int 17]) dX2_kind_7 rfl mvX2_65 (by decide) rfl (s_length (j := 0) (by decide)) (Nat.le_of_ble_eq_true rfl) rfl rfl (Nat.le_of_ble_eq_true rfl) (Nat.zero_le _) (Nat.zero_le _) ?_
          refine e_top (w := .int 35) rfl ?_
          refine e_icmp_ge 55 dX2_kind_10 (by decide) (fun h => absurd h (by decide)) (fun _ => ?_)
          refine e_iload_n dX2_kind_13 2 rfl rfl ?_
          refine e_istore_n dX2_kind_14 3 rfl (ls_s (ls_s (ls_1 rfl))) (Nat.le_of_ble_eq_true rfl) ?_
          refine e_ldcS (j := 0) (by decide) rfl rfl dX2_kind_15 ?_
          refine e_iload_n dX2_kind_17 3 rfl rfl ?_
          refine e_callVS1 (As := [.int 17]) (rest := []) dX2_kind_18 rfl mvX2_59 (by decide) rfl (s_charAt (j := 0) (k := 17) (by decide) (by decide)) (Nat.le_of_ble_eq_true rfl) rfl rfl (Nat.le_of_ble_eq_true rfl) (Nat.zero_le _) (Nat.zero_le _) ?_
          refine e_top (w := .int 100) (by decide) ?_
          refine e_bipush 32 dX2_kind_21 rfl ?_
          refine e_icmp_eq 32 dX2_kind_23 (by decide) (fun h => absurd h (by decide)) (fun _ => ?_)
          refine e_iinc 18 dX2_kind_26 rfl (by decide) (ls_s (ls_s (ls_1 rfl))) (Nat.le_of_ble_eq_true rfl) ?_
          refine e_goto 15 dX2_kind_29 (by decide) ?_
          refine e_ldcS (j := 0) (by decide) rfl rfl dX2_kind_15 ?_
          refine e_iload_n dX2_kind_17 3 rfl rfl ?_
          refine e_callVS1 (As := [.int 18]) (rest := []) dX2_kind_18 rfl mvX2_59 (by decide) rfl (s_charAt (j := 0) (k := 18) (by decide) (by decide)) (Nat.le_of_ble_eq_true rfl) rfl rfl (Nat.le_of_ble_eq_true rfl) (Nat.zero_le _) (Nat.zero_le _) ?_
          refine e_top (w := .int 105) (by decide) ?_
          refine e_bipush 32 dX2_kind_21 rfl ?_
          refine e_icmp_eq 32 dX2_kind_23 (by decide) (fun h => absurd h (by decide)) (fun _ => ?_)
          refine e_iinc 19 dX2_kind_26 rfl (by decide) (ls_s (ls_s (ls_1 rfl))) (Nat.le_of_ble_eq_true rfl) ?_
          refine e_goto 15 dX2_kind_29 (by decide) ?_
          refine e_ldcS (j := 0) (by decide) rfl rfl dX2_kind_15 ?_
          refine e_iload_n dX2_kind_17 3 rfl rfl ?_
          refine e_callVS1 (As := [.int 19]) (rest := []) dX2_kind_18 rfl mvX2_59 (by decide) rfl (s_charAt (j := 0) (k := 19) (by decide) (by decide)) (Nat.le_of_ble_eq_true rfl) rfl rfl (Nat.le_of_ble_eq_true rfl) (Nat.zero_le _) (Nat.zero_le _) ?_
          refine e_top (w := .int 118) (by decide) ?_
          refine e_bipush 32 dX2_kind_21 rfl ?_
          refine e_icmp_eq 32 dX2_kind_23 (by decide) (fun h => absurd h (by decide)) (fun _ => ?_)
          refine e_iinc 20 dX2_kind_26 rfl (by decide) (ls_s (ls_s (ls_1 rfl))) (Nat.le_of_ble_eq_true rfl) ?_
          refine e_goto 15 dX2_kind_29 (by decide) ?_
          refine e_ldcS (j := 0) (by decide) rfl rfl dX2_kind_15 ?_
          refine e_iload_n dX2_kind_17 3 rfl rfl ?_
          refine e_callVS1 (As := [.int 20]) (rest := []) dX2_kind_18 rfl mvX2_59 (by decide) rfl (s_charAt (j := 0) (k := 20) (by decide) (by decide)) (Nat.le_of_ble_eq_true rfl) rfl rfl (Nat.le_of_ble_eq_true rfl) (Nat.zero_le _) (Nat.zero_le _) ?_
          refine e_top (w := .int 32) (by decide) ?_
          refine e_bipush 32 dX2_kind_21 rfl ?_
          refine e_icmp_eq 32 dX2_kind_23 (by decide) (fun _ => ?_) (fun h => absurd h (by decide))
          refine e_aload_n dX2_kind_32 0 rfl rfl rfl ?_
          refine e_ldcS (j := 0) (by decide) rfl rfl dX2_kind_33 ?_
          refine e_iload_n dX2_kind_35 2 rfl rfl ?_
          refine e_iload_n dX2_kind_36 3 rfl rfl ?_
          refine e_callVB (As := [.retAddr 0, .int 17, .int 20]) (rest := []) dX2_kind_37 rfl mvX2_69 (xm_o4) rfl (x_isWd (k := 17) (e := 20) hn h102 hf hG hT wok_div) (Nat.le_of_ble_eq_true rfl) rfl rfl (Nat.le_of_ble_eq_true rfl) (Nat.zero_le _) (Nat.zero_le _) (fun h37 => ?_) (fun h37 => ?_)
          · refine e_if_eq_f (by decide) 45 dX2_kind_40 (by decide) ?_
            refine e_iload_n dX2_kind_43 1 rfl rfl ?_
            refine e_ireturn dX2_kind_44 rfl rfl (Nat.zero_le _) (Nat.zero_le _) ?_
            have e1 : knT t = 4 := by unfold knT; rw [if_neg hw0, if_neg hw1, if_neg hw2, if_neg hw3, if_pos h37]
            rw [e1]
            exact ⟨rfl, rfl⟩
          · have hw4 := h37
            refine e_if_eq_t 45 (by decide) dX2_kind_40 (by decide) ?_
            refine e_iinc 5 dX2_kind_45 rfl (by decide) (ls_1 rfl) (Nat.le_of_ble_eq_true rfl) ?_
            refine e_iload_n dX2_kind_48 3 rfl rfl ?_
            refine e_iconst 1 dX2_kind_49 rfl ?_
            refine e_iadd dX2_kind_50 ?_
            refine e_top (w := .int 21) (by decide) ?_
            refine e_istore_n dX2_kind_51 2 rfl (ls_s (ls_1 rfl)) (Nat.le_of_ble_eq_true rfl) ?_
            refine e_goto 4 dX2_kind_52 (by decide) ?_
            refine e_iload_n dX2_kind_4 2 rfl rfl ?_
            refine e_ldcS (j := 0) (by decide) rfl rfl dX2_kind_5 ?_
            refine e_callVS1 (As := []) (rest := [.int 21]) dX2_kind_7 rfl mvX2_65 (by decide) rfl (s_length (j := 0) (by decide)) (Nat.le_of_ble_eq_true rfl) rfl rfl (Nat.le_of_ble_eq_true rfl) (Nat.zero_le _) (Nat.zero_le _) ?_
            refine e_top (w := .int 35) rfl ?_
            refine e_icmp_ge 55 dX2_kind_10 (by decide) (fun h => absurd h (by decide)) (fun _ => ?_)
            refine e_iload_n dX2_kind_13 2 rfl rfl ?_
            refine e_istore_n dX2_kind_14 3 rfl (ls_s (ls_s (ls_1 rfl))) (Nat.le_of_ble_eq_true rfl) ?_
            refine e_ldcS (j := 0) (by decide) rfl rfl dX2_kind_15 ?_
            refine e_iload_n dX2_kind_17 3 rfl rfl ?_
            refine e_callVS1 (As := [.int 21]) (rest := []) dX2_kind_18 rfl mvX2_59 (by decide) rfl (s_charAt (j := 0) (k := 21) (by decide) (by decide)) (Nat.le_of_ble_eq_true rfl) rfl rfl (Nat.le_of_ble_eq_true rfl) (Nat.zero_le _) (Nat.zero_le _) ?_
            refine e_top (w := .int 112) (by decide) ?_
            refine e_bipush 32 dX2_kind_21 rfl ?_
            refine e_icmp_eq 32 dX2_kind_23 (by decide) (fun h => absurd h (by decide)) (fun _ => ?_)
            refine e_iinc 22 dX2_kind_26 rfl (by decide) (ls_s (ls_s (ls_1 rfl))) (Nat.le_of_ble_eq_true rfl) ?_
            refine e_goto 15 dX2_kind_29 (by decide) ?_
            refine e_ldcS (j := 0) (by decide) rfl rfl dX2_kind_15 ?_
            refine e_iload_n dX2_kind_17 3 rfl rfl ?_
            refine e_callVS1 (As := [.int 22]) (rest := []) dX2_kind_18 rfl mvX2_59 (by decide) rfl (s_charAt (j := 0) (k := 22) (by decide) (by decide)) (Nat.le_of_ble_eq_true rfl) rfl rfl (Nat.le_of_ble_eq_true rfl) (Nat.zero_le _) (Nat.zero_le _) ?_
            refine e_top (w := .int 114) (by decide) ?_
            refine e_bipush 32 dX2_kind_21 rfl ?_
            refine e_icmp_eq 32 dX2_kind_23 (by decide) (fun h => absurd h (by decide)) (fun _ => ?_)
            refine e_iinc 23 dX2_kind_26 rfl (by decide) (ls_s (ls_s (ls_1 rfl))) (Nat.le_of_ble_eq_true rfl) ?_
            refine e_goto 15 dX2_kind_29 (by decide) ?_
            refine e_ldcS (j := 0) (by decide) rfl rfl dX2_kind_15 ?_
            refine e_iload_n dX2_kind_17 3 rfl rfl ?_
            refine e_callVS1 (As := [.int 23]) (rest := []) dX2_kind_18 rfl mvX2_59 (by decide) rfl (s_charAt (j := 0) (k := 23) (by decide) (by decide)) (Nat.le_of_ble_eq_true rfl) rfl rfl (Nat.le_of_ble_eq_true rfl) (Nat.zero_le _) (Nat.zero_le _) ?_
            refine e_top (w := .int 105) (by decide) ?_
            refine e_bipush 32 dX2_kind_21 rfl ?_
            refine e_icmp_eq 32 dX2_kind_23 (by decide) (fun h => absurd h (by decide)) (fun _ => ?_)
            refine e_iinc 24 dX2_kind_26 rfl (by decide) (ls_s (ls_s (ls_1 rfl))) (Nat.le_of_ble_eq_true rfl) ?_
            refine e_goto 15 dX2_kind_29 (by decide) ?_
            refine e_ldcS (j := 0) (by decide) rfl rfl dX2_kind_15 ?_
            refine e_iload_n dX2_kind_17 3 rfl rfl ?_
            refine e_callVS1 (As := [.int 24]) (rest := []) dX2_kind_18 rfl mvX2_59 (by decide) rfl (s_charAt (j := 0) (k := 24) (by decide) (by decide)) (Nat.le_of_ble_eq_true rfl) rfl rfl (Nat.le_of_ble_eq_true rfl) (Nat.zero_le _) (Nat.zero_le _) ?_
            refine e_top (w := .int 110) (by decide) ?_
            refine e_bipush 32 dX2_kind_21 rfl ?_
            refine e_icmp_eq 32 dX2_kind_23 (by decide) (fun h => absurd h (by decide)) (fun _ => ?_)
            refine e_iinc 25 dX2_kind_26 rfl (by decide) (ls_s (ls_s (ls_1 rfl))) (Nat.le_of_ble_eq_true rfl) ?_
            refine e_goto 15 dX2_kind_29 (by decide) ?_
            refine e_ldcS (j := 0) (by decide) rfl rfl dX2_kind_15 ?_
            refine e_iload_n dX2_kind_17 3 rfl rfl ?_
            refine e_callVS1 (As := [.int 25]) (rest := []) dX2_kind_18 rfl mvX2_59 (by decide) rfl (s_charAt (j := 0) (k := 25) (by decide) (by decide)) (Nat.le_of_ble_eq_true rfl) rfl rfl (Nat.le_of_ble_eq_true rfl) (Nat.zero_le _) (Nat.zero_le _) ?_
            refine e_top (w := .int 116) (by decide) ?_
            refine e_bipush 32 dX2_kind_21 rfl ?_
            refine e_icmp_eq 32 dX2_kind_23 (by decide) (fun h => absurd h (by decide)) (fun _ => ?_)
            refine e_iinc 26 dX2_kind_26 rfl (by decide) (ls_s (ls_s (ls_1 rfl))) (Nat.le_of_ble_eq_true rfl) ?_
            refine e_goto 15 dX2_kind_29 (by decide) ?_
            refine e_ldcS (j := 0) (by decide) rfl rfl dX2_kind_15 ?_
            refine e_iload_n dX2_kind_17 3 rfl rfl ?_
            refine e_callVS1 (As := [.int 26]) (rest := []) dX2_kind_18 rfl mvX2_59 (by decide) rfl (s_charAt (j := 0) (k := 26) (by decide) (by decide)) (Nat.le_of_ble_eq_true rfl) rfl rfl (Nat.le_of_ble_eq_true rfl) (Nat.zero_le _) (Nat.zero_le _) ?_
            refine e_top (w := .int 32) (by decide) ?_
            refine e_bipush 32 dX2_kind_21 rfl ?_
            refine e_icmp_eq 32 dX2_kind_23 (by decide) (fun _ => ?_) (fun h => absurd h (by decide))
            refine e_aload_n dX2_kind_32 0 rfl rfl rfl ?_
            refine e_ldcS (j := 0) (by decide) rfl rfl dX2_kind_33 ?_
            refine e_iload_n dX2_kind_35 2 rfl rfl ?_
            refine e_iload_n dX2_kind_36 3 rfl rfl ?_
            refine e_callVB (As := [.retAddr 0, .int 21, .int 26]) (rest := []) dX2_kind_37 rfl mvX2_69 (xm_o4) rfl (x_isWd (k := 21) (e := 26) hn h102 hf hG hT wok_print) (Nat.le_of_ble_eq_true rfl) rfl rfl (Nat.le_of_ble_eq_true rfl) (Nat.zero_le _) (Nat.zero_le _) (fun h37 => ?_) (fun h37 => ?_)
            · refine e_if_eq_f (by decide) 45 dX2_kind_40 (by decide) ?_
              refine e_iload_n dX2_kind_43 1 rfl rfl ?_
              refine e_ireturn dX2_kind_44 rfl rfl (Nat.zero_le _) (Nat.zero_le _) ?_
              have e1 : knT t = 5 := by unfold knT; rw [if_neg hw0, if_neg hw1, if_neg hw2, if_neg hw3, if_neg hw4, if_pos h37]
              rw [e1]
              exact ⟨rfl, rfl⟩
            · have hw5 := h37
              refine e_if_eq_t 45 (by decide) dX2_kind_40 (by decide) ?_
              refine e_iinc 6 dX2_kind_45 rfl (by decide) (ls_1 rfl) (Nat.le_of_ble_eq_true rfl) ?_
              refine e_iload_n dX2_kind_48 3 rfl rfl ?_
              refine e_iconst 1 dX2_kind_49 rfl ?_
              refine e_iadd dX2_kind_50 ?_
              refine e_top (w := .int 27) (by decide) ?_
              refine e_istore_n dX2_kind_51 2 rfl (ls_s (ls_1 rfl)) (Nat.le_of_ble_eq_true rfl) ?_
              refine e_goto 4 dX2_kind_52 (by decide) ?_
              refine e_iload_n dX2_kind_4 2 rfl rfl ?_
              refine e_ldcS (j := 0) (by decide) rfl rfl dX2_kind_5 ?_
              refine e_callVS1 (As := []) (rest := [.int 27]) dX2_kind_7 rfl mvX2_65 (by decide) rfl (s_length (j := 0) (by decide)) (Nat.le_of_ble_eq_true rfl) rfl rfl (Nat.le_of_ble_eq_true rfl) (Nat.zero_le _) (Nat.zero_le _) ?_
              refine e_top (w := .int 35) rfl ?_
              refine e_icmp_ge 55 dX2_kind_10 (by decide) (fun h => absurd h (by decide)) (fun _ => ?_)
              refine e_iload_n dX2_kind_13 2 rfl rfl ?_
              refine e_istore_n dX2_kind_14 3 rfl (ls_s (ls_s (ls_1 rfl))) (Nat.le_of_ble_eq_true rfl) ?_
              refine e_ldcS (j := 0) (by decide) rfl rfl dX2_kind_15 ?_
              refine e_iload_n dX2_kind_17 3 rfl rfl ?_
              refine e_callVS1 (As := [.int 27]) (rest := []) dX2_kind_18 rfl mvX2_59 (by decide) rfl (s_charAt (j := 0) (k := 27) (by decide) (by decide)) (Nat.le_of_ble_eq_true rfl) rfl rfl (Nat.le_of_ble_eq_true rfl) (Nat.zero_le _) (Nat.zero_le _) ?_
              refine e_top (w := .int 98) (by decide) ?_
              refine e_bipush 32 dX2_kind_21 rfl ?_
              refine e_icmp_eq 32 dX2_kind_23 (by decide) (fun h => absurd h (by decide)) (fun _ => ?_)
              refine e_iinc 28 dX2_kind_26 rfl (by decide) (ls_s (ls_s (ls_1 rfl))) (Nat.le_of_ble_eq_true rfl) ?_
              refine e_goto 15 dX2_kind_29 (by decide) ?_
              refine e_ldcS (j := 0) (by decide) rfl rfl dX2_kind_15 ?_
              refine e_iload_n dX2_kind_17 3 rfl rfl ?_
              refine e_callVS1 (As := [.int 28]) (rest := []) dX2_kind_18 rfl mvX2_59 (by decide) rfl (s_charAt (j := 0) (k := 28) (by decide) (by decide)) (Nat.le_of_ble_eq_true rfl) rfl rfl (Nat.le_of_ble_eq_true rfl) (Nat.zero_le _) (Nat.zero_le _) ?_
              refine e_top (w := .int 97) (by decide) ?_
              refine e_bipush 32 dX2_kind_21 rfl ?_
              refine e_icmp_eq 32 dX2_kind_23 (by decide) (fun h => absurd h (by decide)) (fun _ => ?_)
              refine e_iinc 29 dX2_kind_26 rfl (by decide) (ls_s (ls_s (ls_1 rfl))) (Nat.le_of_ble_eq_true rfl) ?_
              refine e_goto 15 dX2_kind_29 (by decide) ?_
              refine e_ldcS (j := 0) (by decide) rfl rfl dX2_kind_15 ?_
              refine e_iload_n dX2_kind_17 3 rfl rfl ?_
              refine e_callVS1 (As := [.int 29]) (rest := []) dX2_kind_18 rfl mvX2_59 (by decide) rfl (s_charAt (j := 0) (k := 29) (by decide) (by decide)) (Nat.le_of_ble_eq_true rfl) rfl rfl (Nat.le_of_ble_eq_true rfl) (Nat.zero_le _) (Nat.zero_le _) ?_
              refine e_top (w := .int 99) (by decide) ?_
              refine e_bipush 32 dX2_kind_21 rfl ?_
              refine e_icmp_eq 32 dX2_kind_23 (by decide) (fun h => absurd h (by decide)) (fun _ => ?_)
              refine e_iinc 30 dX2_kind_26 rfl (by decide) (ls_s (ls_s (ls_1 rfl))) (Nat.le_of_ble_eq_true rfl) ?_
              refine e_goto 15 dX2_kind_29 (by decide) ?_
              refine e_ldcS (j := 0) (by decide) rfl rfl dX2_kind_15 ?_
              refine e_iload_n dX2_kind_17 3 rfl rfl ?_
              refine e_callVS1 (As := [.int 30]) (rest := []) dX2_kind_18 rfl mvX2_59 (by decide) rfl (s_charAt (j := 0) (k := 30) (by decide) (by decide)) (Nat.le_of_ble_eq_true rfl) rfl rfl (Nat.le_of_ble_eq_true rfl) (Nat.zero_le _) (Nat.zero_le _) ?_
              refine e_top (w := .int 107) (by decide) ?_
              refine e_bipush 32 dX2_kind_21 rfl ?_
              refine e_icmp_eq 32 dX2_kind_23 (by decide) (fun h => absurd h (by decide)) (fun _ => ?_)
              refine e_iinc 31 dX2_kind_26 rfl (by decide) (ls_s (ls_s (ls_1 rfl))) (Nat.le_of_ble_eq_true rfl) ?_
              refine e_goto 15 dX2_kind_29 (by decide) ?_
              refine e_ldcS (j := 0) (by decide) rfl rfl dX2_kind_15 ?_
              refine e_iload_n dX2_kind_17 3 rfl rfl ?_
              refine e_callVS1 (As := [.int 31]) (rest := []) dX2_kind_18 rfl mvX2_59 (by decide) rfl (s_charAt (j := 0) (k := 31) (by decide) (by decide)) (Nat.le_of_ble_eq_true rfl) rfl rfl (Nat.le_of_ble_eq_true rfl) (Nat.zero_le _) (Nat.zero_le _) ?_
              refine e_top (w := .int 32) (by decide) ?_
              refine e_bipush 32 dX2_kind_21 rfl ?_
              refine e_icmp_eq 32 dX2_kind_23 (by decide) (fun _ => ?_) (fun h => absurd h (by decide))
              refine e_aload_n dX2_kind_32 0 rfl rfl rfl ?_
              refine e_ldcS (j := 0) (by decide) rfl rfl dX2_kind_33 ?_
              refine e_iload_n dX2_kind_35 2 rfl rfl ?_
              refine e_iload_n dX2_kind_36 3 rfl rfl ?_
              refine e_callVB (As := [.retAddr 0, .int 27, .int 31]) (rest := []) dX2_kind_37 rfl mvX2_69 (xm_o4) rfl (x_isWd (k := 27) (e := 31) hn h102 hf hG hT wok_back) (Nat.le_of_ble_eq_true rfl) rfl rfl (Nat.le_of_ble_eq_true rfl) (Nat.zero_le _) (Nat.zero_le _) (fun h37 => ?_) (fun h37 => ?_)
              · refine e_if_eq_f (by decide) 45 dX2_kind_40 (by decide) ?_
                refine e_iload_n dX2_kind_43 1 rfl rfl ?_
                refine e_ireturn dX2_kind_44 rfl rfl (Nat.zero_le _) (Nat.zero_le _) ?_
                have e1 : knT t = 6 := by unfold knT; rw [if_neg hw0, if_neg hw1, if_neg hw2, if_neg hw3, if_neg hw4, if_neg hw5, if_pos h37]
                rw [e1]
                exact ⟨rfl, rfl⟩
              · have hw6 := h37
                refine e_if_eq_t 45 (by decide) dX2_kind_40 (by decide) ?_
                refine e_iinc 7 dX2_kind_45 rfl (by decide) (ls_1 rfl) (Nat.le_of_ble_eq_true rfl) ?_
                refine e_iload_n dX2_kind_48 3 rfl rfl ?_
                refine e_iconst 1 dX2_kind_49 rfl ?_
                refine e_iadd dX2_kind_50 ?_
                refine e_top (w := .int 32) (by decide) ?_
                refine e_istore_n dX2_kind_51 2 rfl (ls_s (ls_1 rfl)) (Nat.le_of_ble_eq_true rfl) ?_
                refine e_goto 4 dX2_kind_52 (by decide) ?_
                refine e_iload_n dX2_kind_4 2 rfl rfl ?_
                refine e_ldcS (j := 0) (by decide) rfl rfl dX2_kind_5 ?_
                refine e_callVS1 (As := []) (rest := [.int 32]) dX2_kind_7 rfl mvX2_65 (by decide) rfl (s_length (j := 0) (by decide)) (Nat.le_of_ble_eq_true rfl) rfl rfl (Nat.le_of_ble_eq_true rfl) (Nat.zero_le _) (Nat.zero_le _) ?_
                refine e_top (w := .int 35) rfl ?_
                refine e_icmp_ge 55 dX2_kind_10 (by decide) (fun h => absurd h (by decide)) (fun _ => ?_)
                refine e_iload_n dX2_kind_13 2 rfl rfl ?_
                refine e_istore_n dX2_kind_14 3 rfl (ls_s (ls_s (ls_1 rfl))) (Nat.le_of_ble_eq_true rfl) ?_
                refine e_ldcS (j := 0) (by decide) rfl rfl dX2_kind_15 ?_
                refine e_iload_n dX2_kind_17 3 rfl rfl ?_
                refine e_callVS1 (As := [.int 32]) (rest := []) dX2_kind_18 rfl mvX2_59 (by decide) rfl (s_charAt (j := 0) (k := 32) (by decide) (by decide)) (Nat.le_of_ble_eq_true rfl) rfl rfl (Nat.le_of_ble_eq_true rfl) (Nat.zero_le _) (Nat.zero_le _) ?_
                refine e_top (w := .int 111) (by decide) ?_
                refine e_bipush 32 dX2_kind_21 rfl ?_
                refine e_icmp_eq 32 dX2_kind_23 (by decide) (fun h => absurd h (by decide)) (fun _ => ?_)
                refine e_iinc 33 dX2_kind_26 rfl (by decide) (ls_s (ls_s (ls_1 rfl))) (Nat.le_of_ble_eq_true rfl) ?_
                refine e_goto 15 dX2_kind_29 (by decide) ?_
                refine e_ldcS (j := 0) (by decide) rfl rfl dX2_kind_15 ?_
                refine e_iload_n dX2_kind_17 3 rfl rfl ?_
                refine e_callVS1 (As := [.int 33]) (rest := []) dX2_kind_18 rfl mvX2_59 (by decide) rfl (s_charAt (j := 0) (k := 33) (by decide) (by decide)) (Nat.le_of_ble_eq_true rfl) rfl rfl (Nat.le_of_ble_eq_true rfl) (Nat.zero_le _) (Nat.zero_le _) ?_
                refine e_top (w := .int 110) (by decide) ?_
                refine e_bipush 32 dX2_kind_21 rfl ?_
                refine e_icmp_eq 32 dX2_kind_23 (by decide) (fun h => absurd h (by decide)) (fun _ => ?_)
                refine e_iinc 34 dX2_kind_26 rfl (by decide) (ls_s (ls_s (ls_1 rfl))) (Nat.le_of_ble_eq_true rfl) ?_
                refine e_goto 15 dX2_kind_29 (by decide) ?_
                refine e_ldcS (j := 0) (by decide) rfl rfl dX2_kind_15 ?_
                refine e_iload_n dX2_kind_17 3 rfl rfl ?_
                refine e_callVS1 (As := [.int 34]) (rest := []) dX2_kind_18 rfl mvX2_59 (by decide) rfl (s_charAt (j := 0) (k := 34) (by decide) (by decide)) (Nat.le_of_ble_eq_true rfl) rfl rfl (Nat.le_of_ble_eq_true rfl) (Nat.zero_le _) (Nat.zero_le _) ?_
                refine e_top (w := .int 32) (by decide) ?_
                refine e_bipush 32 dX2_kind_21 rfl ?_
                refine e_icmp_eq 32 dX2_kind_23 (by decide) (fun _ => ?_) (fun h => absurd h (by decide))
                refine e_aload_n dX2_kind_32 0 rfl rfl rfl ?_
                refine e_ldcS (j := 0) (by decide) rfl rfl dX2_kind_33 ?_
                refine e_iload_n dX2_kind_35 2 rfl rfl ?_
                refine e_iload_n dX2_kind_36 3 rfl rfl ?_
                refine e_callVB (As := [.retAddr 0, .int 32, .int 34]) (rest := []) dX2_kind_37 rfl mvX2_69 (xm_o4) rfl (x_isWd (k := 32) (e := 34) hn h102 hf hG hT wok_on) (Nat.le_of_ble_eq_true rfl) rfl rfl (Nat.le_of_ble_eq_true rfl) (Nat.zero_le _) (Nat.zero_le _) (fun h37 => ?_) (fun h37 => ?_)
                · refine e_if_eq_f (by decide) 45 dX2_kind_40 (by decide) ?_
                  refine e_iload_n dX2_kind_43 1 rfl rfl ?_
                  refine e_ireturn dX2_kind_44 rfl rfl (Nat.zero_le _) (Nat.zero_le _) ?_
                  have e1 : knT t = 7 := by unfold knT; rw [if_neg hw0, if_neg hw1, if_neg hw2, if_neg hw3, if_neg hw4, if_neg hw5, if_neg hw6, if_pos h37]
                  rw [e1]
                  exact ⟨rfl, rfl⟩
                · have hw7 := h37
                  refine e_if_eq_t 45 (by decide) dX2_kind_40 (by decide) ?_
                  refine e_iinc 8 dX2_kind_45 rfl (by decide) (ls_1 rfl) (Nat.le_of_ble_eq_true rfl) ?_
                  refine e_iload_n dX2_kind_48 3 rfl rfl ?_
                  refine e_iconst 1 dX2_kind_49 rfl ?_
                  refine e_iadd dX2_kind_50 ?_
                  refine e_top (w := .int 35) (by decide) ?_
                  refine e_istore_n dX2_kind_51 2 rfl (ls_s (ls_1 rfl)) (Nat.le_of_ble_eq_true rfl) ?_
                  refine e_goto 4 dX2_kind_52 (by decide) ?_
                  refine e_iload_n dX2_kind_4 2 rfl rfl ?_
                  refine e_ldcS (j := 0) (by decide) rfl rfl dX2_kind_5 ?_
                  refine e_callVS1 (As := []) (rest := [.int 35]) dX2_kind_7 rfl mvX2_65 (by decide) rfl (s_length (j := 0) (by decide)) (Nat.le_of_ble_eq_true rfl) rfl rfl (Nat.le_of_ble_eq_true rfl) (Nat.zero_le _) (Nat.zero_le _) ?_
                  refine e_top (w := .int 35) rfl ?_
                  refine e_icmp_ge 55 dX2_kind_10 (by decide) (fun _ => ?_) (fun h => absurd h (by decide))
                  refine e_iconst (-1) dX2_kind_55 rfl ?_
                  refine e_ireturn dX2_kind_56 rfl rfl (Nat.zero_le _) (Nat.zero_le _) ?_
                  have e1 : knT t = 8 := by unfold knT; rw [if_neg hw0, if_neg hw1, if_neg hw2, if_neg hw3, if_neg hw4, if_neg hw5, if_neg hw6, if_neg hw7]
                  rw [e1]
                  exact ⟨rfl, rfl⟩

