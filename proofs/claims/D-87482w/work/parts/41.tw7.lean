/-! ===== the twin: turns ===== -/
set_option maxHeartbeats 4000000 in
set_option maxRecDepth 100000 in
/-- a loop of fewest -/
theorem t_few1 {pre post : List ACell} {τ0 : Tw} (hp : pre.length = 56) {v : Int64} {Q : Qfun} : ∀ (fuel : Nat) (k : Nat) (r : Int64) (τ : Tw), k ≤ 14 → 14 < k + fuel → r = rsN v k → Sx [] [] [67, 68, 69] [] τ τ0 → (∀ j, j < k → τ.2.2.1 69 j = dgN v j) → (∀ τ : Tw, Sx [] [] [67, 68, 69] [] τ τ0 → (∀ j, j < 13 → τ.2.2.1 69 j = dgN v j) → E cX4_fewest (RX4, some .int, 10, 1, (0, 0), false, []) Q noX 0 0 37 [some (.ref 56), some (.long v), none, none, none, none, none, none, none, none] [] (TW pre τ post)) →
    E cX4_fewest (RX4, (some .int), 10, 1, (0, 0), false, []) Q noX 0 0 5 [some (.ref 56), some (.long v), none, some (.long r), none, some (.int (nI k)), none, none, none, none] [] (TW pre τ post) := by
  intro fuel
  induction fuel with
  | zero => intro k r τ hk hf hr hS hd hE; exact absurd hf (by omega)
  | succ fuel ih =>
    intro k r τ hk hf hr hS hd hE
    refine e_iload dX4_fewest_5 rfl ?_
    refine e_bipush 14 dX4_fewest_7 rfl ?_
    refine e_icmp_geN k 14 37 (by omega) (by omega) dX4_fewest_9 (by decide) (fun h9 => ?_) (fun h9 => ?_)
    · refine e_forget (i := 3) (ln_s (ln_s (ln_s ln_0))) ?_
      refine e_forget (i := 5) (ln_s (ln_s (ln_s (ln_s (ln_s ln_0))))) ?_
      exact hE τ hS (fun j hj => hd j (by omega))
    · refine e_aload_n dX4_fewest_12 0 rfl rfl rfl ?_
      refine e_getf (v := .ref 94) dX4_fewest_13 rfl fX4_143 (tw_o hp) rfl ?_
      refine e_iload dX4_fewest_16 rfl ?_
      refine e_lload_n dX4_fewest_18 3 rfl rfl ?_
      refine e_ldc2 rfl q1588 dX4_fewest_19 ?_
      refine e_lrem dX4_fewest_22 (by decide) ?_
      refine e_l2i dX4_fewest_23 ?_
      refine e_iast (f := τ.2.2.1 69) (j := k) dX4_fewest_24 (tw_a69 hp) rfl (by omega) (by decide) ?_
      rw [tw_s69 hp]
      refine e_lload_n dX4_fewest_25 3 rfl rfl ?_
      refine e_ldc2 rfl q1588 dX4_fewest_26 ?_
      refine e_ldiv dX4_fewest_29 (by decide) ?_
      refine e_lstore_n dX4_fewest_30 3 rfl (ls_s (ls_s (ls_1 rfl))) (ln_s (ln_s (ln_s (ln_s ln_0)))) (Nat.le_of_ble_eq_true rfl) ?_
      refine e_incN k (k + 1) (inc1 _) dX4_fewest_31 rfl (ls_s (ls_s (ls_s (ls_s (ls_1 rfl))))) (Nat.le_of_ble_eq_true rfl) ?_
      refine e_goto 5 dX4_fewest_34 (by decide) ?_
      refine ih (k + 1) _ _ (by omega) (by omega) (by rw [rsN, hr]) (hS.A _ (by decide)) (fun j hj => ?_) hE
      show upd (τ.2.2.1 69) k _ j = _
      by_cases e : j = k
      · subst e; rw [pk_us, dgN, hr]
      · rw [pk_un e]; exact hd j (by omega)

theorem ls_at {B : Int32} {d : Nat → Int32} {k c : Nat} (hk : k ≤ 12) (hc : c < 2) : lsB B d (13 - (2 * k + c) / 2) ((2 * k + c) % 2) = mnI (if 9 < d k + nI c then 1000 else d k + nI c + lsB B d (12 - k) 0) (if d k + nI c < 1 then 1000 else 10 - (d k + nI c) + lsB B d (12 - k) 1) := by
  rw [show (2 * k + c) / 2 = k by omega, show (2 * k + c) % 2 = c by omega, show 13 - k = (12 - k) + 1 by omega, lsB, show 12 - (12 - k) = k by omega]
set_option maxHeartbeats 4000000 in
set_option maxRecDepth 100000 in
/-- a loop of fewest -/
theorem t_few2 {pre post : List ACell} {τ0 : Tw} (hp : pre.length = 56) {v : Int64} {k : Nat} (hk : k ≤ 12) {Q : Qfun} : ∀ (fuel : Nat) (c : Nat) (τ : Tw), c ≤ 2 → 2 < c + fuel → Sx [] [] [67, 68, 69] [] τ τ0 → (∀ j, j < 13 → τ.2.2.1 69 j = dgN v j) → (∀ j, 2 * k + 2 ≤ j → j < 28 → τ.2.2.1 67 j = lsB 1000 (dgN v) (13 - j / 2) (j % 2)) → (∀ e, e < c → τ.2.2.1 67 (2 * k + e) = lsB 1000 (dgN v) (13 - (2 * k + e) / 2) ((2 * k + e) % 2)) → (∀ τ : Tw, Sx [] [] [67, 68, 69] [] τ τ0 → (∀ j, j < 13 → τ.2.2.1 69 j = dgN v j) → (∀ j, 2 * k ≤ j → j < 28 → τ.2.2.1 67 j = lsB 1000 (dgN v) (13 - j / 2) (j % 2)) → E cX4_fewest (RX4, some .int, 10, 1, (0, 0), false, []) Q noX 0 0 170 [some (.ref 56), some (.long v), none, none, none, some (.int (nI k)), none, none, none, none] [] (TW pre τ post)) →
    E cX4_fewest (RX4, (some .int), 10, 1, (0, 0), false, []) Q noX 0 0 67 [some (.ref 56), some (.long v), none, none, none, some (.int (nI k)), some (.int (nI c)), none, none, none] [] (TW pre τ post) := by
  intro fuel
  induction fuel with
  | zero => intro c τ hc hf hS hd hg hc1 hE; exact absurd hf (by omega)
  | succ fuel ih =>
    intro c τ hc hf hS hd hg hc1 hE
    refine e_iload dX4_fewest_67 rfl ?_
    refine e_iconst 2 dX4_fewest_69 rfl ?_
    refine e_icmp_geN c 2 170 (by omega) (by omega) dX4_fewest_70 (by decide) (fun h70 => ?_) (fun h70 => ?_)
    · refine e_forget (i := 6) (ln_s (ln_s (ln_s (ln_s (ln_s (ln_s ln_0)))))) ?_
      refine hE τ hS hd (fun j h1 h2 => ?_)
      by_cases e : j < 2 * k + 2
      · have := hc1 (j - 2 * k) (by omega)
        rw [show 2 * k + (j - 2 * k) = j by omega] at this
        exact this
      · exact hg j (by omega) h2
    · refine e_aload_n dX4_fewest_73 0 rfl rfl rfl ?_
      refine e_getf (v := .ref 94) dX4_fewest_74 rfl fX4_143 (tw_o hp) rfl ?_
      refine e_iload dX4_fewest_77 rfl ?_
      refine e_iald (f := τ.2.2.1 69) (j := k) dX4_fewest_79 (tw_a69 hp) rfl (by omega) (by decide) ?_
      refine e_iload dX4_fewest_80 rfl ?_
      refine e_iadd dX4_fewest_82 ?_
      refine e_istore dX4_fewest_83 (ls_s (ls_s (ls_s (ls_s (ls_s (ls_s (ls_1 rfl))))))) (Nat.le_of_ble_eq_true rfl) ?_
      refine e_iload dX4_fewest_85 rfl ?_
      refine e_bipush 9 dX4_fewest_87 rfl ?_
      refine e_icmp_gt 109 dX4_fewest_89 (by decide) (fun h89 => ?_) (fun h89 => ?_)
      · refine e_sipush 1000 dX4_fewest_109 rfl ?_
        refine e_istore dX4_fewest_112 (ls_s (ls_s (ls_s (ls_s (ls_s (ls_s (ls_s (ls_1 rfl)))))))) (Nat.le_of_ble_eq_true rfl) ?_
        refine e_iload dX4_fewest_114 rfl ?_
        refine e_iconst 1 dX4_fewest_116 rfl ?_
        refine e_icmp_lt 140 dX4_fewest_117 (by decide) (fun h117 => ?_) (fun h117 => ?_)
        · refine e_sipush 1000 dX4_fewest_140 rfl ?_
          refine e_istore dX4_fewest_143 (ls_s (ls_s (ls_s (ls_s (ls_s (ls_s (ls_s (ls_s (ls_1 rfl))))))))) (Nat.le_of_ble_eq_true rfl) ?_
          refine e_aload_n dX4_fewest_145 0 rfl rfl rfl ?_
          refine e_getf (v := .ref 92) dX4_fewest_146 rfl fX4_137 (tw_o hp) rfl ?_
          refine e_iconst 2 dX4_fewest_149 rfl ?_
          refine e_iload dX4_fewest_150 rfl ?_
          refine e_imulN 2 k dX4_fewest_152 ?_
          refine e_iload dX4_fewest_153 rfl ?_
          refine e_iaddN (2 * k) c dX4_fewest_155 ?_
          refine e_iload dX4_fewest_156 rfl ?_
          refine e_iload dX4_fewest_158 rfl ?_
          refine e_callS1 (As := [.int 1000, .int 1000]) (rest := [.int (nI ((2 * k) + c)), .ref 92]) dX4_fewest_160 rfl msX4_496 (m_min 1000 1000) (Nat.le_of_ble_eq_true rfl) rfl rfl (Nat.le_of_ble_eq_true rfl) (Nat.zero_le _) (Nat.zero_le _) ?_
          refine e_iast (f := τ.2.2.1 67) (j := (2 * k) + c) dX4_fewest_163 (tw_a67 hp) rfl (by omega) (by decide) ?_
          rw [tw_s67 hp]
          refine e_incN c (c + 1) (inc1 _) dX4_fewest_164 rfl (ls_s (ls_s (ls_s (ls_s (ls_s (ls_1 rfl)))))) (Nat.le_of_ble_eq_true rfl) ?_
          refine e_goto 67 dX4_fewest_167 (by decide) ?_
          refine e_forget (i := 7) (ln_s (ln_s (ln_s (ln_s (ln_s (ln_s (ln_s ln_0))))))) ?_
          refine e_forget (i := 8) (ln_s (ln_s (ln_s (ln_s (ln_s (ln_s (ln_s (ln_s ln_0)))))))) ?_
          refine e_forget (i := 9) (ln_s (ln_s (ln_s (ln_s (ln_s (ln_s (ln_s (ln_s (ln_s ln_0))))))))) ?_
          have hdk := hd k (by omega)
          refine ih (c + 1) _ (by omega) (by omega) (hS.A _ (by decide)) hd (fun j h1 h2 => ?_) (fun e he => ?_) hE
          · show upd (τ.2.2.1 67) (2 * k + c) _ j = _
            rw [pk_un (by omega)]; exact hg j h1 h2
          · show upd (τ.2.2.1 67) (2 * k + c) _ (2 * k + e) = _
            by_cases ee : e = c
            · subst ee
              rw [pk_us, ls_at (by omega) (by omega), ← hdk, if_pos h89, if_pos h117]
            · rw [pk_un (by omega)]; exact hc1 e (by omega)
        · refine e_bipush 10 dX4_fewest_120 rfl ?_
          refine e_iload dX4_fewest_122 rfl ?_
          refine e_isub dX4_fewest_124 ?_
          refine e_aload_n dX4_fewest_125 0 rfl rfl rfl ?_
          refine e_getf (v := .ref 92) dX4_fewest_126 rfl fX4_137 (tw_o hp) rfl ?_
          refine e_iconst 2 dX4_fewest_129 rfl ?_
          refine e_iload dX4_fewest_130 rfl ?_
          refine e_imulN 2 k dX4_fewest_132 ?_
          refine e_iconst 3 dX4_fewest_133 rfl ?_
          refine e_iaddN (2 * k) 3 dX4_fewest_134 ?_
          refine e_iald (f := τ.2.2.1 67) (j := (2 * k) + 3) dX4_fewest_135 (tw_a67 hp) rfl (by omega) (by decide) ?_
          refine e_iadd dX4_fewest_136 ?_
          refine e_goto 143 dX4_fewest_137 (by decide) ?_
          refine e_istore dX4_fewest_143 (ls_s (ls_s (ls_s (ls_s (ls_s (ls_s (ls_s (ls_s (ls_1 rfl))))))))) (Nat.le_of_ble_eq_true rfl) ?_
          refine e_aload_n dX4_fewest_145 0 rfl rfl rfl ?_
          refine e_getf (v := .ref 92) dX4_fewest_146 rfl fX4_137 (tw_o hp) rfl ?_
          refine e_iconst 2 dX4_fewest_149 rfl ?_
          refine e_iload dX4_fewest_150 rfl ?_
          refine e_imulN 2 k dX4_fewest_152 ?_
          refine e_iload dX4_fewest_153 rfl ?_
          refine e_iaddN (2 * k) c dX4_fewest_155 ?_
          refine e_iload dX4_fewest_156 rfl ?_
          refine e_iload dX4_fewest_158 rfl ?_
          refine e_callS1 (As := [.int 1000, .int ((10 - ((τ.2.2.1 69 k) + (nI c))) + (τ.2.2.1 67 ((2 * k) + 3)))]) (rest := [.int (nI ((2 * k) + c)), .ref 92]) dX4_fewest_160 rfl msX4_496 (m_min 1000 ((10 - ((τ.2.2.1 69 k) + (nI c))) + (τ.2.2.1 67 ((2 * k) + 3)))) (Nat.le_of_ble_eq_true rfl) rfl rfl (Nat.le_of_ble_eq_true rfl) (Nat.zero_le _) (Nat.zero_le _) ?_
          refine e_iast (f := τ.2.2.1 67) (j := (2 * k) + c) dX4_fewest_163 (tw_a67 hp) rfl (by omega) (by decide) ?_
          rw [tw_s67 hp]
          refine e_incN c (c + 1) (inc1 _) dX4_fewest_164 rfl (ls_s (ls_s (ls_s (ls_s (ls_s (ls_1 rfl)))))) (Nat.le_of_ble_eq_true rfl) ?_
          refine e_goto 67 dX4_fewest_167 (by decide) ?_
          refine e_forget (i := 7) (ln_s (ln_s (ln_s (ln_s (ln_s (ln_s (ln_s ln_0))))))) ?_
          refine e_forget (i := 8) (ln_s (ln_s (ln_s (ln_s (ln_s (ln_s (ln_s (ln_s ln_0)))))))) ?_
          refine e_forget (i := 9) (ln_s (ln_s (ln_s (ln_s (ln_s (ln_s (ln_s (ln_s (ln_s ln_0))))))))) ?_
          have q1 := hg (2 * k + 3) (by omega) (by omega)
          rw [show (2 * k + 3) / 2 = k + 1 by omega, show (2 * k + 3) % 2 = 1 by omega, show 13 - (k + 1) = 12 - k by omega] at q1
          have hdk := hd k (by omega)
          refine ih (c + 1) _ (by omega) (by omega) (hS.A _ (by decide)) hd (fun j h1 h2 => ?_) (fun e he => ?_) hE
          · show upd (τ.2.2.1 67) (2 * k + c) _ j = _
            rw [pk_un (by omega)]; exact hg j h1 h2
          · show upd (τ.2.2.1 67) (2 * k + c) _ (2 * k + e) = _
            by_cases ee : e = c
            · subst ee
              rw [pk_us, ls_at (by omega) (by omega), ← hdk, if_pos h89, if_neg h117, q1]
            · rw [pk_un (by omega)]; exact hc1 e (by omega)
      · refine e_iload dX4_fewest_92 rfl ?_
        refine e_aload_n dX4_fewest_94 0 rfl rfl rfl ?_
        refine e_getf (v := .ref 92) dX4_fewest_95 rfl fX4_137 (tw_o hp) rfl ?_
        refine e_iconst 2 dX4_fewest_98 rfl ?_
        refine e_iload dX4_fewest_99 rfl ?_
        refine e_imulN 2 k dX4_fewest_101 ?_
        refine e_iconst 2 dX4_fewest_102 rfl ?_
        refine e_iaddN (2 * k) 2 dX4_fewest_103 ?_
        refine e_iald (f := τ.2.2.1 67) (j := (2 * k) + 2) dX4_fewest_104 (tw_a67 hp) rfl (by omega) (by decide) ?_
        refine e_iadd dX4_fewest_105 ?_
        refine e_goto 112 dX4_fewest_106 (by decide) ?_
        refine e_istore dX4_fewest_112 (ls_s (ls_s (ls_s (ls_s (ls_s (ls_s (ls_s (ls_1 rfl)))))))) (Nat.le_of_ble_eq_true rfl) ?_
        refine e_iload dX4_fewest_114 rfl ?_
        refine e_iconst 1 dX4_fewest_116 rfl ?_
        refine e_icmp_lt 140 dX4_fewest_117 (by decide) (fun h117 => ?_) (fun h117 => ?_)
        · refine e_sipush 1000 dX4_fewest_140 rfl ?_
          refine e_istore dX4_fewest_143 (ls_s (ls_s (ls_s (ls_s (ls_s (ls_s (ls_s (ls_s (ls_1 rfl))))))))) (Nat.le_of_ble_eq_true rfl) ?_
          refine e_aload_n dX4_fewest_145 0 rfl rfl rfl ?_
          refine e_getf (v := .ref 92) dX4_fewest_146 rfl fX4_137 (tw_o hp) rfl ?_
          refine e_iconst 2 dX4_fewest_149 rfl ?_
          refine e_iload dX4_fewest_150 rfl ?_
          refine e_imulN 2 k dX4_fewest_152 ?_
          refine e_iload dX4_fewest_153 rfl ?_
          refine e_iaddN (2 * k) c dX4_fewest_155 ?_
          refine e_iload dX4_fewest_156 rfl ?_
          refine e_iload dX4_fewest_158 rfl ?_
          refine e_callS1 (As := [.int (((τ.2.2.1 69 k) + (nI c)) + (τ.2.2.1 67 ((2 * k) + 2))), .int 1000]) (rest := [.int (nI ((2 * k) + c)), .ref 92]) dX4_fewest_160 rfl msX4_496 (m_min (((τ.2.2.1 69 k) + (nI c)) + (τ.2.2.1 67 ((2 * k) + 2))) 1000) (Nat.le_of_ble_eq_true rfl) rfl rfl (Nat.le_of_ble_eq_true rfl) (Nat.zero_le _) (Nat.zero_le _) ?_
          refine e_iast (f := τ.2.2.1 67) (j := (2 * k) + c) dX4_fewest_163 (tw_a67 hp) rfl (by omega) (by decide) ?_
          rw [tw_s67 hp]
          refine e_incN c (c + 1) (inc1 _) dX4_fewest_164 rfl (ls_s (ls_s (ls_s (ls_s (ls_s (ls_1 rfl)))))) (Nat.le_of_ble_eq_true rfl) ?_
          refine e_goto 67 dX4_fewest_167 (by decide) ?_
          refine e_forget (i := 7) (ln_s (ln_s (ln_s (ln_s (ln_s (ln_s (ln_s ln_0))))))) ?_
          refine e_forget (i := 8) (ln_s (ln_s (ln_s (ln_s (ln_s (ln_s (ln_s (ln_s ln_0)))))))) ?_
          refine e_forget (i := 9) (ln_s (ln_s (ln_s (ln_s (ln_s (ln_s (ln_s (ln_s (ln_s ln_0))))))))) ?_
          have q0 := hg (2 * k + 2) (by omega) (by omega)
          rw [show (2 * k + 2) / 2 = k + 1 by omega, show (2 * k + 2) % 2 = 0 by omega, show 13 - (k + 1) = 12 - k by omega] at q0
          have hdk := hd k (by omega)
          refine ih (c + 1) _ (by omega) (by omega) (hS.A _ (by decide)) hd (fun j h1 h2 => ?_) (fun e he => ?_) hE
          · show upd (τ.2.2.1 67) (2 * k + c) _ j = _
            rw [pk_un (by omega)]; exact hg j h1 h2
          · show upd (τ.2.2.1 67) (2 * k + c) _ (2 * k + e) = _
            by_cases ee : e = c
            · subst ee
              rw [pk_us, ls_at (by omega) (by omega), ← hdk, if_neg h89, if_pos h117, q0]
            · rw [pk_un (by omega)]; exact hc1 e (by omega)
        · refine e_bipush 10 dX4_fewest_120 rfl ?_
          refine e_iload dX4_fewest_122 rfl ?_
          refine e_isub dX4_fewest_124 ?_
          refine e_aload_n dX4_fewest_125 0 rfl rfl rfl ?_
          refine e_getf (v := .ref 92) dX4_fewest_126 rfl fX4_137 (tw_o hp) rfl ?_
          refine e_iconst 2 dX4_fewest_129 rfl ?_
          refine e_iload dX4_fewest_130 rfl ?_
          refine e_imulN 2 k dX4_fewest_132 ?_
          refine e_iconst 3 dX4_fewest_133 rfl ?_
          refine e_iaddN (2 * k) 3 dX4_fewest_134 ?_
          refine e_iald (f := τ.2.2.1 67) (j := (2 * k) + 3) dX4_fewest_135 (tw_a67 hp) rfl (by omega) (by decide) ?_
          refine e_iadd dX4_fewest_136 ?_
          refine e_goto 143 dX4_fewest_137 (by decide) ?_
          refine e_istore dX4_fewest_143 (ls_s (ls_s (ls_s (ls_s (ls_s (ls_s (ls_s (ls_s (ls_1 rfl))))))))) (Nat.le_of_ble_eq_true rfl) ?_
          refine e_aload_n dX4_fewest_145 0 rfl rfl rfl ?_
          refine e_getf (v := .ref 92) dX4_fewest_146 rfl fX4_137 (tw_o hp) rfl ?_
          refine e_iconst 2 dX4_fewest_149 rfl ?_
          refine e_iload dX4_fewest_150 rfl ?_
          refine e_imulN 2 k dX4_fewest_152 ?_
          refine e_iload dX4_fewest_153 rfl ?_
          refine e_iaddN (2 * k) c dX4_fewest_155 ?_
          refine e_iload dX4_fewest_156 rfl ?_
          refine e_iload dX4_fewest_158 rfl ?_
          refine e_callS1 (As := [.int (((τ.2.2.1 69 k) + (nI c)) + (τ.2.2.1 67 ((2 * k) + 2))), .int ((10 - ((τ.2.2.1 69 k) + (nI c))) + (τ.2.2.1 67 ((2 * k) + 3)))]) (rest := [.int (nI ((2 * k) + c)), .ref 92]) dX4_fewest_160 rfl msX4_496 (m_min (((τ.2.2.1 69 k) + (nI c)) + (τ.2.2.1 67 ((2 * k) + 2))) ((10 - ((τ.2.2.1 69 k) + (nI c))) + (τ.2.2.1 67 ((2 * k) + 3)))) (Nat.le_of_ble_eq_true rfl) rfl rfl (Nat.le_of_ble_eq_true rfl) (Nat.zero_le _) (Nat.zero_le _) ?_
          refine e_iast (f := τ.2.2.1 67) (j := (2 * k) + c) dX4_fewest_163 (tw_a67 hp) rfl (by omega) (by decide) ?_
          rw [tw_s67 hp]
          refine e_incN c (c + 1) (inc1 _) dX4_fewest_164 rfl (ls_s (ls_s (ls_s (ls_s (ls_s (ls_1 rfl)))))) (Nat.le_of_ble_eq_true rfl) ?_
          refine e_goto 67 dX4_fewest_167 (by decide) ?_
          refine e_forget (i := 7) (ln_s (ln_s (ln_s (ln_s (ln_s (ln_s (ln_s ln_0))))))) ?_
          refine e_forget (i := 8) (ln_s (ln_s (ln_s (ln_s (ln_s (ln_s (ln_s (ln_s ln_0)))))))) ?_
          refine e_forget (i := 9) (ln_s (ln_s (ln_s (ln_s (ln_s (ln_s (ln_s (ln_s (ln_s ln_0))))))))) ?_
          have q0 := hg (2 * k + 2) (by omega) (by omega)
          rw [show (2 * k + 2) / 2 = k + 1 by omega, show (2 * k + 2) % 2 = 0 by omega, show 13 - (k + 1) = 12 - k by omega] at q0
          have q1 := hg (2 * k + 3) (by omega) (by omega)
          rw [show (2 * k + 3) / 2 = k + 1 by omega, show (2 * k + 3) % 2 = 1 by omega, show 13 - (k + 1) = 12 - k by omega] at q1
          have hdk := hd k (by omega)
          refine ih (c + 1) _ (by omega) (by omega) (hS.A _ (by decide)) hd (fun j h1 h2 => ?_) (fun e he => ?_) hE
          · show upd (τ.2.2.1 67) (2 * k + c) _ j = _
            rw [pk_un (by omega)]; exact hg j h1 h2
          · show upd (τ.2.2.1 67) (2 * k + c) _ (2 * k + e) = _
            by_cases ee : e = c
            · subst ee
              rw [pk_us, ls_at (by omega) (by omega), ← hdk, if_neg h89, if_neg h117, q0, q1]
            · rw [pk_un (by omega)]; exact hc1 e (by omega)

set_option maxHeartbeats 4000000 in
set_option maxRecDepth 100000 in
/-- a loop of fewest -/
theorem t_few3 {pre post : List ACell} {τ0 : Tw} (hp : pre.length = 56) {v : Int64} {Q : Qfun} : ∀ (fuel : Nat) (n : Nat) (x : Int32) (τ : Tw), n ≤ 13 → n < fuel → (n = 0 ∧ x = -1) ∨ (∃ k, n = k + 1 ∧ x = nI k) → Sx [] [] [67, 68, 69] [] τ τ0 → (∀ j, j < 13 → τ.2.2.1 69 j = dgN v j) → (∀ j, 2 * n ≤ j → j < 28 → τ.2.2.1 67 j = lsB 1000 (dgN v) (13 - j / 2) (j % 2)) → (∀ τ : Tw, Sx [] [] [67, 68, 69] [] τ τ0 → (∀ j, j < 13 → τ.2.2.1 69 j = dgN v j) → (∀ j, 0 ≤ j → j < 28 → τ.2.2.1 67 j = lsB 1000 (dgN v) (13 - j / 2) (j % 2)) → E cX4_fewest (RX4, some .int, 10, 1, (0, 0), false, []) Q noX 0 0 176 [some (.ref 56), some (.long v), none, none, none, none, none, none, none, none] [] (TW pre τ post)) →
    E cX4_fewest (RX4, (some .int), 10, 1, (0, 0), false, []) Q noX 0 0 59 [some (.ref 56), some (.long v), none, none, none, some (.int x), none, none, none, none] [] (TW pre τ post) := by
  intro fuel
  induction fuel with
  | zero => intro n x τ hn hf hx hS hd hg hE; exact absurd hf (by omega)
  | succ fuel ih =>
    intro n x τ hn hf hx hS hd hg hE
    refine e_iload dX4_fewest_59 rfl ?_
    refine e_if_lt 176 dX4_fewest_61 (by decide) (fun h61 => ?_) (fun h61 => ?_)
    · have e0 : n = 0 := by
        rcases hx with ⟨e1, -⟩ | ⟨k, ek, e2⟩
        · exact e1
        · rw [e2] at h61; exact absurd h61 (nI_pos (by omega))
      refine e_forget (i := 5) (ln_s (ln_s (ln_s (ln_s (ln_s ln_0))))) ?_
      exact hE τ hS hd (fun j h1 h2 => hg j (by omega) h2)
    · obtain ⟨k, rfl, rfl⟩ : ∃ k, n = k + 1 ∧ x = nI k := by
        rcases hx with ⟨e1, e2⟩ | h
        · rw [e2] at h61; exact absurd (show (-1 : Int32) < 0 by decide) h61
        · exact h
      refine e_iconst 0 dX4_fewest_64 rfl ?_
      refine e_istore dX4_fewest_65 (ls_s (ls_s (ls_s (ls_s (ls_s (ls_1 rfl)))))) (Nat.le_of_ble_eq_true rfl) ?_
      refine t_few2 hp (k := k) (by omega) 3 0 τ (by omega) (by omega) hS hd hg (fun e he => absurd he (by omega)) (fun τ1 hS1 hd1 hg1 => ?_)
      refine e_iinc ((nI k) + (-1)) dX4_fewest_170 rfl rfl (ls_s (ls_s (ls_s (ls_s (ls_1 rfl))))) (Nat.le_of_ble_eq_true rfl) ?_
      refine e_goto 59 dX4_fewest_173 (by decide) ?_
      refine ih k _ τ1 (by omega) (by omega) ?_ hS1 hd1 hg1 hE
      cases k with
      | zero => exact Or.inl ⟨rfl, rfl⟩
      | succ q => exact Or.inr ⟨q, rfl, decS q⟩

set_option maxHeartbeats 4000000 in
set_option maxRecDepth 100000 in
/-- a loop of fewest -/
theorem t_few4 {pre post : List ACell} {τ0 : Tw} (hp : pre.length = 56) {v : Int64} {Q : Qfun} : ∀ (fuel : Nat) (k : Nat) (x : Int32) (τ : Tw), k ≤ 13 → 13 < k + fuel → x = nI (cyB 1000 (dgN v) k) → Sx [] [] [67, 68, 69] [] τ τ0 → (∀ j, j < 13 → τ.2.2.1 69 j = dgN v j) → (∀ j, 0 ≤ j → j < 28 → τ.2.2.1 67 j = lsB 1000 (dgN v) (13 - j / 2) (j % 2)) → (∀ j, j < k → τ.2.2.1 68 j = fgB 1000 (dgN v) j) → (∀ τ : Tw, Sx [] [] [67, 68, 69] [] τ τ0 → (∀ j, j < 13 → τ.2.2.1 68 j = fgB 1000 (dgN v) j) → Q (some (.int (spFew v))) (TW pre τ post)) →
    E cX4_fewest (RX4, (some .int), 10, 1, (0, 0), false, []) Q noX 0 0 182 [some (.ref 56), some (.long v), none, none, none, some (.int x), some (.int (nI k)), none, none, none] [] (TW pre τ post) := by
  intro fuel
  induction fuel with
  | zero => intro k x τ hk hf hx hS hd hg hF hQ; exact absurd hf (by omega)
  | succ fuel ih =>
    intro k x τ hk hf hx hS hd hg hF hQ
    refine e_iload dX4_fewest_182 rfl ?_
    refine e_bipush 13 dX4_fewest_184 rfl ?_
    refine e_icmp_geN k 13 284 (by omega) (by omega) dX4_fewest_186 (by decide) (fun h186 => ?_) (fun h186 => ?_)
    · refine e_aload_n dX4_fewest_284 0 rfl rfl rfl ?_
      refine e_getf (v := .ref 92) dX4_fewest_285 rfl fX4_137 (tw_o hp) rfl ?_
      refine e_iconst 0 dX4_fewest_288 rfl ?_
      refine e_iald (f := τ.2.2.1 67) (j := 0) dX4_fewest_289 (tw_a67 hp) rfl (by omega) (by decide) ?_
      refine e_ireturn dX4_fewest_290 rfl rfl (Nat.zero_le _) (Nat.zero_le _) ?_
      have e0 := hg 0 (by omega) (by omega)
      rw [show τ.2.2.1 67 0 = spFew v from e0]
      exact hQ τ hS (fun j hj => hF j (by omega))
    · subst hx
      have hcy := cyB_le (B := 1000) (d := dgN v) k
      refine e_aload_n dX4_fewest_189 0 rfl rfl rfl ?_
      refine e_getf (v := .ref 94) dX4_fewest_190 rfl fX4_143 (tw_o hp) rfl ?_
      refine e_iload dX4_fewest_193 rfl ?_
      refine e_iald (f := τ.2.2.1 69) (j := k) dX4_fewest_195 (tw_a69 hp) rfl (by omega) (by decide) ?_
      refine e_iload dX4_fewest_196 rfl ?_
      refine e_iadd dX4_fewest_198 ?_
      refine e_istore dX4_fewest_199 (ls_s (ls_s (ls_s (ls_s (ls_s (ls_s (ls_1 rfl))))))) (Nat.le_of_ble_eq_true rfl) ?_
      refine e_iload dX4_fewest_201 rfl ?_
      refine e_bipush 9 dX4_fewest_203 rfl ?_
      refine e_icmp_gt 241 dX4_fewest_205 (by decide) (fun h205 => ?_) (fun h205 => ?_)
      · refine e_iconst 0 dX4_fewest_241 rfl ?_
        refine e_istore dX4_fewest_242 (ls_s (ls_s (ls_s (ls_s (ls_s (ls_s (ls_s (ls_1 rfl)))))))) (Nat.le_of_ble_eq_true rfl) ?_
        refine e_aload_n dX4_fewest_244 0 rfl rfl rfl ?_
        refine e_getf (v := .ref 93) dX4_fewest_245 rfl fX4_140 (tw_o hp) rfl ?_
        refine e_iload dX4_fewest_248 rfl ?_
        refine e_iload dX4_fewest_250 rfl ?_
        refine e_if_eq_t 260 (by decide) dX4_fewest_252 (by decide) ?_
        refine e_iload dX4_fewest_260 rfl ?_
        refine e_bipush 10 dX4_fewest_262 rfl ?_
        refine e_isub dX4_fewest_264 ?_
        refine e_iast (f := τ.2.2.1 68) (j := k) dX4_fewest_265 (tw_a68 hp) rfl (by omega) (by decide) ?_
        rw [tw_s68 hp]
        refine e_iload dX4_fewest_266 rfl ?_
        refine e_if_eq_t 275 (by decide) dX4_fewest_268 (by decide) ?_
        refine e_iconst 1 dX4_fewest_275 rfl ?_
        refine e_istore dX4_fewest_276 (ls_s (ls_s (ls_s (ls_s (ls_1 rfl))))) (Nat.le_of_ble_eq_true rfl) ?_
        refine e_incN k (k + 1) (inc1 _) dX4_fewest_278 rfl (ls_s (ls_s (ls_s (ls_s (ls_s (ls_1 rfl)))))) (Nat.le_of_ble_eq_true rfl) ?_
        refine e_goto 182 dX4_fewest_281 (by decide) ?_
        refine e_forget (i := 7) (ln_s (ln_s (ln_s (ln_s (ln_s (ln_s (ln_s ln_0))))))) ?_
        refine e_forget (i := 8) (ln_s (ln_s (ln_s (ln_s (ln_s (ln_s (ln_s (ln_s ln_0)))))))) ?_
        have hdk := hd k (by omega)
        have hc1 := cyB_le (B := 1000) (d := dgN v) k
        have g1 := hg (2 * k + 2) (by omega) (by omega)
        rw [show (2 * k + 2) / 2 = k + 1 by omega, show (2 * k + 2) % 2 = 0 by omega, show 13 - (k + 1) = 12 - k by omega] at g1
        have g2 := hg (2 * k + cyB 1000 (dgN v) k) (by omega) (by omega)
        rw [show (2 * k + cyB 1000 (dgN v) k) / 2 = k by omega, show (2 * k + cyB 1000 (dgN v) k) % 2 = cyB 1000 (dgN v) k by omega] at g2
        refine ih (k + 1) _ _ (by omega) (by omega) (by rw [cyB, if_neg (fun z => by have z := stB_iff.mp z; rw [← hdk] at z; exact absurd z.1 (Int32.not_le.mpr h205))]; rfl) (hS.A _ (by decide)) hd hg (fun j hj => ?_) hQ
        show upd (τ.2.2.1 68) k _ j = _
        by_cases e : j = k
        · subst e; rw [pk_us, fgB, if_neg (fun z => by have z := stB_iff.mp z; rw [← hdk] at z; exact absurd z.1 (Int32.not_le.mpr h205)), hdk]
        · rw [pk_un e]; exact hF j (by omega)
      · refine e_iload dX4_fewest_208 rfl ?_
        refine e_aload_n dX4_fewest_210 0 rfl rfl rfl ?_
        refine e_getf (v := .ref 92) dX4_fewest_211 rfl fX4_137 (tw_o hp) rfl ?_
        refine e_iconst 2 dX4_fewest_214 rfl ?_
        refine e_iload dX4_fewest_215 rfl ?_
        refine e_imulN 2 k dX4_fewest_217 ?_
        refine e_iconst 2 dX4_fewest_218 rfl ?_
        refine e_iaddN (2 * k) 2 dX4_fewest_219 ?_
        refine e_iald (f := τ.2.2.1 67) (j := (2 * k) + 2) dX4_fewest_220 (tw_a67 hp) rfl (by omega) (by decide) ?_
        refine e_iadd dX4_fewest_221 ?_
        refine e_aload_n dX4_fewest_222 0 rfl rfl rfl ?_
        refine e_getf (v := .ref 92) dX4_fewest_223 rfl fX4_137 (tw_o hp) rfl ?_
        refine e_iconst 2 dX4_fewest_226 rfl ?_
        refine e_iload dX4_fewest_227 rfl ?_
        refine e_imulN 2 k dX4_fewest_229 ?_
        refine e_iload dX4_fewest_230 rfl ?_
        refine e_iaddN (2 * k) (cyB 1000 (dgN v) k) dX4_fewest_232 ?_
        refine e_iald (f := τ.2.2.1 67) (j := (2 * k) + (cyB 1000 (dgN v) k)) dX4_fewest_233 (tw_a67 hp) rfl (by omega) (by decide) ?_
        refine e_icmp_ne 241 dX4_fewest_234 (by decide) (fun h234 => ?_) (fun h234 => ?_)
        · refine e_iconst 0 dX4_fewest_241 rfl ?_
          refine e_istore dX4_fewest_242 (ls_s (ls_s (ls_s (ls_s (ls_s (ls_s (ls_s (ls_1 rfl)))))))) (Nat.le_of_ble_eq_true rfl) ?_
          refine e_aload_n dX4_fewest_244 0 rfl rfl rfl ?_
          refine e_getf (v := .ref 93) dX4_fewest_245 rfl fX4_140 (tw_o hp) rfl ?_
          refine e_iload dX4_fewest_248 rfl ?_
          refine e_iload dX4_fewest_250 rfl ?_
          refine e_if_eq_t 260 (by decide) dX4_fewest_252 (by decide) ?_
          refine e_iload dX4_fewest_260 rfl ?_
          refine e_bipush 10 dX4_fewest_262 rfl ?_
          refine e_isub dX4_fewest_264 ?_
          refine e_iast (f := τ.2.2.1 68) (j := k) dX4_fewest_265 (tw_a68 hp) rfl (by omega) (by decide) ?_
          rw [tw_s68 hp]
          refine e_iload dX4_fewest_266 rfl ?_
          refine e_if_eq_t 275 (by decide) dX4_fewest_268 (by decide) ?_
          refine e_iconst 1 dX4_fewest_275 rfl ?_
          refine e_istore dX4_fewest_276 (ls_s (ls_s (ls_s (ls_s (ls_1 rfl))))) (Nat.le_of_ble_eq_true rfl) ?_
          refine e_incN k (k + 1) (inc1 _) dX4_fewest_278 rfl (ls_s (ls_s (ls_s (ls_s (ls_s (ls_1 rfl)))))) (Nat.le_of_ble_eq_true rfl) ?_
          refine e_goto 182 dX4_fewest_281 (by decide) ?_
          refine e_forget (i := 7) (ln_s (ln_s (ln_s (ln_s (ln_s (ln_s (ln_s ln_0))))))) ?_
          refine e_forget (i := 8) (ln_s (ln_s (ln_s (ln_s (ln_s (ln_s (ln_s (ln_s ln_0)))))))) ?_
          have hdk := hd k (by omega)
          have hc1 := cyB_le (B := 1000) (d := dgN v) k
          have g1 := hg (2 * k + 2) (by omega) (by omega)
          rw [show (2 * k + 2) / 2 = k + 1 by omega, show (2 * k + 2) % 2 = 0 by omega, show 13 - (k + 1) = 12 - k by omega] at g1
          have g2 := hg (2 * k + cyB 1000 (dgN v) k) (by omega) (by omega)
          rw [show (2 * k + cyB 1000 (dgN v) k) / 2 = k by omega, show (2 * k + cyB 1000 (dgN v) k) % 2 = cyB 1000 (dgN v) k by omega] at g2
          refine ih (k + 1) _ _ (by omega) (by omega) (by rw [cyB, if_neg (fun z => by have z := stB_iff.mp z; rw [← hdk] at z; exact h234 (by rw [g1, g2]; exact z.2))]; rfl) (hS.A _ (by decide)) hd hg (fun j hj => ?_) hQ
          show upd (τ.2.2.1 68) k _ j = _
          by_cases e : j = k
          · subst e; rw [pk_us, fgB, if_neg (fun z => by have z := stB_iff.mp z; rw [← hdk] at z; exact h234 (by rw [g1, g2]; exact z.2)), hdk]
          · rw [pk_un e]; exact hF j (by omega)
        · refine e_iconst 1 dX4_fewest_237 rfl ?_
          refine e_goto 242 dX4_fewest_238 (by decide) ?_
          refine e_istore dX4_fewest_242 (ls_s (ls_s (ls_s (ls_s (ls_s (ls_s (ls_s (ls_1 rfl)))))))) (Nat.le_of_ble_eq_true rfl) ?_
          refine e_aload_n dX4_fewest_244 0 rfl rfl rfl ?_
          refine e_getf (v := .ref 93) dX4_fewest_245 rfl fX4_140 (tw_o hp) rfl ?_
          refine e_iload dX4_fewest_248 rfl ?_
          refine e_iload dX4_fewest_250 rfl ?_
          refine e_if_eq_f (by decide) 260 dX4_fewest_252 (by decide) ?_
          refine e_iload dX4_fewest_255 rfl ?_
          refine e_goto 265 dX4_fewest_257 (by decide) ?_
          refine e_iast (f := τ.2.2.1 68) (j := k) dX4_fewest_265 (tw_a68 hp) rfl (by omega) (by decide) ?_
          rw [tw_s68 hp]
          refine e_iload dX4_fewest_266 rfl ?_
          refine e_if_eq_f (by decide) 275 dX4_fewest_268 (by decide) ?_
          refine e_iconst 0 dX4_fewest_271 rfl ?_
          refine e_goto 276 dX4_fewest_272 (by decide) ?_
          refine e_istore dX4_fewest_276 (ls_s (ls_s (ls_s (ls_s (ls_1 rfl))))) (Nat.le_of_ble_eq_true rfl) ?_
          refine e_incN k (k + 1) (inc1 _) dX4_fewest_278 rfl (ls_s (ls_s (ls_s (ls_s (ls_s (ls_1 rfl)))))) (Nat.le_of_ble_eq_true rfl) ?_
          refine e_goto 182 dX4_fewest_281 (by decide) ?_
          refine e_forget (i := 7) (ln_s (ln_s (ln_s (ln_s (ln_s (ln_s (ln_s ln_0))))))) ?_
          refine e_forget (i := 8) (ln_s (ln_s (ln_s (ln_s (ln_s (ln_s (ln_s (ln_s ln_0)))))))) ?_
          have hdk := hd k (by omega)
          have hc1 := cyB_le (B := 1000) (d := dgN v) k
          have g1 := hg (2 * k + 2) (by omega) (by omega)
          rw [show (2 * k + 2) / 2 = k + 1 by omega, show (2 * k + 2) % 2 = 0 by omega, show 13 - (k + 1) = 12 - k by omega] at g1
          have g2 := hg (2 * k + cyB 1000 (dgN v) k) (by omega) (by omega)
          rw [show (2 * k + cyB 1000 (dgN v) k) / 2 = k by omega, show (2 * k + cyB 1000 (dgN v) k) % 2 = cyB 1000 (dgN v) k by omega] at g2
          refine ih (k + 1) _ _ (by omega) (by omega) (by rw [cyB, if_pos (stB_iff.mpr ⟨by rw [← hdk]; exact i32_nlt h205, by rw [← hdk, ← g1, ← g2]; exact h234⟩)]; rfl) (hS.A _ (by decide)) hd hg (fun j hj => ?_) hQ
          show upd (τ.2.2.1 68) k _ j = _
          by_cases e : j = k
          · subst e; rw [pk_us, fgB, if_pos (stB_iff.mpr ⟨by rw [← hdk]; exact i32_nlt h205, by rw [← hdk, ← g1, ← g2]; exact h234⟩), hdk]
          · rw [pk_un e]; exact hF j (by omega)

set_option maxHeartbeats 4000000 in
set_option maxRecDepth 100000 in
/-- WheelTablesModel.fewest -/
theorem t_fewest {pre post : List ACell} {τ : Tw} (hp : pre.length = 56) (v : Int64) : Ct yX4_fewest (ws_ yX4_fewest cX4_fewest 10 (some .int)) 1 0 0 [.ref 56, .long v] (TW pre τ post) (fun v0 M0 => ∃ τ1, M0 = TW pre τ1 post ∧ v0 = some (.int (spFew v)) ∧ Sx [] [] [67, 68, 69] [] τ1 τ ∧ ∀ j, j < 13 → τ1.2.2.1 68 j = fgB 1000 (dgN v) j) noX := by
  refine Ct.of (ini := false) (ls := [some (.ref 56), some (.long v), none, none, none, none, none, none, none, none]) (by decide) (Nat.le_of_ble_eq_true rfl) (fun h => by cases h) rfl ?_
  refine e_lload_n dX4_fewest_0 1 rfl rfl ?_
  refine e_lstore_n dX4_fewest_1 3 rfl (ls_s (ls_s (ls_1 rfl))) (ln_s (ln_s (ln_s (ln_s ln_0)))) (Nat.le_of_ble_eq_true rfl) ?_
  refine e_iconst 0 dX4_fewest_2 rfl ?_
  refine e_istore dX4_fewest_3 (ls_s (ls_s (ls_s (ls_s (ls_1 rfl))))) (Nat.le_of_ble_eq_true rfl) ?_
  refine t_few1 hp (τ0 := τ) 15 0 v τ (by omega) (by omega) rfl Sx.rf (fun j hj => absurd hj (by omega)) (fun τ1 hS1 hd1 => ?_)
  refine e_aload_n dX4_fewest_37 0 rfl rfl rfl ?_
  refine e_getf (v := .ref 92) dX4_fewest_38 rfl fX4_137 (tw_o hp) rfl ?_
  refine e_bipush 26 dX4_fewest_41 rfl ?_
  refine e_iconst 0 dX4_fewest_43 rfl ?_
  refine e_iast (f := τ1.2.2.1 67) (j := 26) dX4_fewest_44 (tw_a67 hp) rfl (by omega) (by decide) ?_
  rw [tw_s67 hp]
  refine e_aload_n dX4_fewest_45 0 rfl rfl rfl ?_
  refine e_getf (v := .ref 92) dX4_fewest_46 rfl fX4_137 (tw_o hp) rfl ?_
  refine e_bipush 27 dX4_fewest_49 rfl ?_
  refine e_sipush 1000 dX4_fewest_51 rfl ?_
  refine e_iast (f := (upd (τ1.2.2.1 67) 26 0)) (j := 27) dX4_fewest_54 (tw_a67 hp) rfl (by omega) (by decide) ?_
  rw [tw_s67 hp]
  refine e_bipush 12 dX4_fewest_55 rfl ?_
  refine e_istore dX4_fewest_57 (ls_s (ls_s (ls_s (ls_s (ls_1 rfl))))) (Nat.le_of_ble_eq_true rfl) ?_
  refine t_few3 hp (τ0 := τ) 14 13 12 _ (by omega) (by omega) (Or.inr ⟨12, rfl, rfl⟩) ((hS1.A _ (by decide)).A _ (by decide)) (by exact hd1) (fun j h1 h2 => ?_) (fun τ2 hS2 hd2 hg2 => ?_)
  · show upd (upd (τ1.2.2.1 67) 26 0) 27 1000 j = _
    rcases (show j = 26 ∨ j = 27 by omega) with rfl | rfl <;> rfl
  refine e_iconst 0 dX4_fewest_176 rfl ?_
  refine e_istore dX4_fewest_177 (ls_s (ls_s (ls_s (ls_s (ls_1 rfl))))) (Nat.le_of_ble_eq_true rfl) ?_
  refine e_iconst 0 dX4_fewest_179 rfl ?_
  refine e_istore dX4_fewest_180 (ls_s (ls_s (ls_s (ls_s (ls_s (ls_1 rfl)))))) (Nat.le_of_ble_eq_true rfl) ?_
  refine t_few4 hp (τ0 := τ) 14 0 0 τ2 (by omega) (by omega) rfl hS2 hd2 hg2 (fun j hj => absurd hj (by omega)) (fun τ3 hS3 hF3 => ?_)
  exact ⟨τ3, rfl, rfl, hS3, hF3⟩

set_option maxHeartbeats 4000000 in
set_option maxRecDepth 100000 in
/-- WheelTablesModel.turns -/
theorem t_turns {pre post : List ACell} {τ : Tw} (hp : pre.length = 56) (v : Int64) : Ct yX4_turns (ws_ yX4_turns cX4_turns 3 (some .int)) 2 0 0 [.ref 56, .long v] (TW pre τ post) (TQi pre post (sp_turns v τ)) noX := by
  refine Ct.of (ini := false) (ls := [some (.ref 56), some (.long v), none]) (by decide) (Nat.le_of_ble_eq_true rfl) (fun h => by cases h) rfl ?_
  refine e_aload_n dX4_turns_0 0 rfl rfl rfl ?_
  refine e_iconst 0 dX4_turns_1 rfl ?_
  refine e_tputI dX4_turns_2 rfl pX4_212 rfl hp (Nat.le_of_ble_eq_true rfl) (tw_f1 _) ?_
  refine e_aload_n dX4_turns_5 0 rfl rfl rfl ?_
  refine e_iconst 0 dX4_turns_6 rfl ?_
  refine e_tputI dX4_turns_7 rfl pX4_215 rfl hp (Nat.le_of_ble_eq_true rfl) (tw_f0 _) ?_
  refine e_lload_n dX4_turns_10 1 rfl rfl ?_
  refine e_lconst 0 dX4_turns_11 rfl ?_
  refine e_ldc2 rfl q1678 dX4_turns_12 ?_
  refine e_callSB (As := [.long v, .long 0, .long 999999999999]) (rest := []) dX4_turns_15 rfl msX4_239 (t_isIn v 0 999999999999) (Nat.le_of_ble_eq_true rfl) rfl rfl (Nat.le_of_ble_eq_true rfl) (Nat.zero_le _) (Nat.zero_le _) (fun h15 => ?_) (fun h15 => ?_)
  · refine e_if_eq_f (by decide) 29 dX4_turns_18 (by decide) ?_
    refine e_aload_n dX4_turns_21 0 rfl rfl rfl ?_
    refine e_lload_n dX4_turns_22 1 rfl rfl ?_
    refine e_callVQ (As := [.long v]) (rest := []) dX4_turns_23 rfl mvX4_475 (tw_o hp) rfl (t_fewest hp v) (Nat.le_of_ble_eq_true rfl) rfl rfl (Nat.le_of_ble_eq_true rfl) (Nat.zero_le _) (Nat.zero_le _) (fun v0 M0 h0 _ => ?_)
    obtain ⟨τ1, rfl, rfl, hS1, hF1⟩ := h0
    refine e_goto 34 dX4_turns_26 (by decide) ?_
    refine e_ireturn dX4_turns_34 rfl rfl (Nat.zero_le _) (Nat.zero_le _) ?_
    refine TQi.q ?_ (hS1.q (by decide) (by decide) (by decide))
    simp only [sp_turns, h15, or_true, true_or, or_self, or_false, false_or, and_true, true_and, and_false, false_and, if_true, if_false, not_true_eq_false, not_false_eq_true]
    rfl
  · refine e_if_eq_t 29 (by decide) dX4_turns_18 (by decide) ?_
    refine e_aload_n dX4_turns_29 0 rfl rfl rfl ?_
    refine e_iconst 5 dX4_turns_30 rfl ?_
    refine e_callV1 (As := [.int 5]) (rest := []) dX4_turns_31 rfl mvX4_252 (tw_o hp) rfl (t_refuse hp 5) (Nat.le_of_ble_eq_true rfl) rfl rfl (Nat.le_of_ble_eq_true rfl) (Nat.zero_le _) (Nat.zero_le _) ?_
    refine e_ireturn dX4_turns_34 rfl rfl (Nat.zero_le _) (Nat.zero_le _) ?_
    refine TQi.of ?_
    first | (simp only [sp_turns, h15, or_true, true_or, or_self, or_false, false_or, and_true, true_and, and_false, false_and, if_true, if_false, not_true_eq_false, not_false_eq_true]; done) | (simp only [sp_turns, h15, or_true, true_or, or_self, or_false, false_or, and_true, true_and, and_false, false_and, if_true, if_false, not_true_eq_false, not_false_eq_true]; rfl)

set_option maxHeartbeats 4000000 in
set_option maxRecDepth 100000 in
/-- WheelTablesModel.turnsAt -/
theorem t_turnsAt {pre post : List ACell} {τ : Tw} (hp : pre.length = 56) (v : Int64) (k : Int32) : Ct yX4_turnsAt (ws_ yX4_turnsAt cX4_turnsAt 4 (some .int)) 2 0 0 [.ref 56, .long v, .int k] (TW pre τ post) (TQi pre post (sp_turnsAt v k τ)) noX := by
  refine Ct.of (ini := false) (ls := [some (.ref 56), some (.long v), none, some (.int k)]) (by decide) (Nat.le_of_ble_eq_true rfl) (fun h => by cases h) rfl ?_
  refine e_aload_n dX4_turnsAt_0 0 rfl rfl rfl ?_
  refine e_iconst 0 dX4_turnsAt_1 rfl ?_
  refine e_tputI dX4_turnsAt_2 rfl pX4_212 rfl hp (Nat.le_of_ble_eq_true rfl) (tw_f1 _) ?_
  refine e_aload_n dX4_turnsAt_5 0 rfl rfl rfl ?_
  refine e_iconst 0 dX4_turnsAt_6 rfl ?_
  refine e_tputI dX4_turnsAt_7 rfl pX4_215 rfl hp (Nat.le_of_ble_eq_true rfl) (tw_f0 _) ?_
  refine e_lload_n dX4_turnsAt_10 1 rfl rfl ?_
  refine e_lconst 0 dX4_turnsAt_11 rfl ?_
  refine e_ldc2 rfl q1678 dX4_turnsAt_12 ?_
  refine e_callSB (As := [.long v, .long 0, .long 999999999999]) (rest := []) dX4_turnsAt_15 rfl msX4_239 (t_isIn v 0 999999999999) (Nat.le_of_ble_eq_true rfl) rfl rfl (Nat.le_of_ble_eq_true rfl) (Nat.zero_le _) (Nat.zero_le _) (fun h15 => ?_) (fun h15 => ?_)
  · refine e_if_eq_f (by decide) 33 dX4_turnsAt_18 (by decide) ?_
    refine e_iload_n dX4_turnsAt_21 3 rfl rfl ?_
    refine e_i2l dX4_turnsAt_22 ?_
    refine e_lconst 0 dX4_turnsAt_23 rfl ?_
    refine e_ldc2 rfl q1471 dX4_turnsAt_24 ?_
    refine e_callSB (As := [.long k.toInt64, .long 0, .long 12]) (rest := []) dX4_turnsAt_27 rfl msX4_239 (t_isInI k 0 12 rfl (by decide) (by decide)) (Nat.le_of_ble_eq_true rfl) rfl rfl (Nat.le_of_ble_eq_true rfl) (Nat.zero_le _) (Nat.zero_le _) (fun h27 => ?_) (fun h27 => ?_)
    · refine e_if_ne_t 39 (by decide) dX4_turnsAt_30 (by decide) ?_
      refine e_aload_n dX4_turnsAt_39 0 rfl rfl rfl ?_
      refine e_lload_n dX4_turnsAt_40 1 rfl rfl ?_
      refine e_callVQ (As := [.long v]) (rest := []) dX4_turnsAt_41 rfl mvX4_475 (tw_o hp) rfl (t_fewest hp v) (Nat.le_of_ble_eq_true rfl) rfl rfl (Nat.le_of_ble_eq_true rfl) (Nat.zero_le _) (Nat.zero_le _) (fun v0 M0 h0 _ => ?_)
      obtain ⟨τ1, rfl, rfl, hS1, hF1⟩ := h0
      refine e_pop dX4_turnsAt_44 rfl ?_
      obtain ⟨j, hj, rfl⟩ := in_oc (x := k) 12 (by decide) h27.1 h27.2
      refine e_aload_n dX4_turnsAt_45 0 rfl rfl rfl ?_
      refine e_getf (v := .ref 93) dX4_turnsAt_46 rfl fX4_140 (tw_o hp) rfl ?_
      refine e_iload_n dX4_turnsAt_49 3 rfl rfl ?_
      refine e_iald (f := τ1.2.2.1 68) (j := j) dX4_turnsAt_50 (tw_a68 hp) rfl (by omega) (by decide) ?_
      refine e_ireturn dX4_turnsAt_51 rfl rfl (Nat.zero_le _) (Nat.zero_le _) ?_
      rw [hF1 j (by omega)]
      refine TQi.q ?_ (hS1.q (by decide) (by decide) (by decide))
      simp only [sp_turnsAt, h15, h27, ix_nI (show j < 2147483648 by omega), or_true, true_or, or_self, or_false, false_or, and_true, true_and, and_false, false_and, if_true, if_false, not_true_eq_false, not_false_eq_true]
      rfl
    · refine e_if_ne_f (by decide) 39 dX4_turnsAt_30 (by decide) ?_
      refine e_aload_n dX4_turnsAt_33 0 rfl rfl rfl ?_
      refine e_iconst 5 dX4_turnsAt_34 rfl ?_
      refine e_callV1 (As := [.int 5]) (rest := []) dX4_turnsAt_35 rfl mvX4_252 (tw_o hp) rfl (t_refuse hp 5) (Nat.le_of_ble_eq_true rfl) rfl rfl (Nat.le_of_ble_eq_true rfl) (Nat.zero_le _) (Nat.zero_le _) ?_
      refine e_ireturn dX4_turnsAt_38 rfl rfl (Nat.zero_le _) (Nat.zero_le _) ?_
      refine TQi.of ?_
      first | (simp only [sp_turnsAt, h15, h27, or_true, true_or, or_self, or_false, false_or, and_true, true_and, and_false, false_and, if_true, if_false, not_true_eq_false, not_false_eq_true]; done) | (simp only [sp_turnsAt, h15, h27, or_true, true_or, or_self, or_false, false_or, and_true, true_and, and_false, false_and, if_true, if_false, not_true_eq_false, not_false_eq_true]; rfl)
  · refine e_if_eq_t 33 (by decide) dX4_turnsAt_18 (by decide) ?_
    refine e_aload_n dX4_turnsAt_33 0 rfl rfl rfl ?_
    refine e_iconst 5 dX4_turnsAt_34 rfl ?_
    refine e_callV1 (As := [.int 5]) (rest := []) dX4_turnsAt_35 rfl mvX4_252 (tw_o hp) rfl (t_refuse hp 5) (Nat.le_of_ble_eq_true rfl) rfl rfl (Nat.le_of_ble_eq_true rfl) (Nat.zero_le _) (Nat.zero_le _) ?_
    refine e_ireturn dX4_turnsAt_38 rfl rfl (Nat.zero_le _) (Nat.zero_le _) ?_
    refine TQi.of ?_
    first | (simp only [sp_turnsAt, h15, or_true, true_or, or_self, or_false, false_or, and_true, true_and, and_false, false_and, if_true, if_false, not_true_eq_false, not_false_eq_true]; done) | (simp only [sp_turnsAt, h15, or_true, true_or, or_self, or_false, false_or, and_true, true_and, and_false, false_and, if_true, if_false, not_true_eq_false, not_false_eq_true]; rfl)

