/-! ===== the twin: cards ===== -/
def CdsAt (τ : Tw) (cs : List Cd) : Prop := ∀ k c, cs[k]? = some c → CdAt τ k c
theorem CdAt.bl {τ τ1 : Tw} {m k : Nat} {c : Cd} (h : CdAt τ k c) (hb : Bl m τ1 τ) (hk : ¬ k = m) : CdAt τ1 k c := by
  unfold CdAt
  rw [hb.1 49 k hk, hb.1 50 k hk, hb.1 51 k hk, hb.1 52 k hk, hb.1 53 k hk, hb.1 54 k hk, hb.1 55 k hk, hb.2 57 k hk]
  exact h
theorem CdsAt.push {τ τ1 : Tw} {cs : List Cd} {c : Cd} (h : CdsAt τ cs) (hb : Bl cs.length τ1 τ) (hc : CdAt τ1 cs.length c) : CdsAt τ1 (cs ++ [c]) := by
  intro k d hd
  by_cases hk : k < cs.length
  · rw [List.getElem?_append_left hk] at hd
    exact (h k d hd).bl hb (by omega)
  · rw [List.getElem?_append_right (by omega)] at hd
    have h0 : k - cs.length = 0 := by
      have := (List.getElem?_eq_some_iff.mp hd).1
      simp at this
      omega
    rw [h0] at hd
    cases hd
    have : k = cs.length := by omega
    rw [this]
    exact hc
theorem pzCard_40 {f : Nat → Int32} {n m : Nat} {t : Tok} {x : Cd × Tok} (h : pzCard f n m t = .inr x) (hm : m ≤ 40) : m < 40 := by
  rcases Nat.lt_or_ge m 40 with h1 | h1
  · exact h1
  · unfold pzCard at h
    rw [if_pos (show m = 40 by omega)] at h
    split at h <;> cases h
def CdIn (τ : Tw) (k : Nat) (c : Cd) : Prop := τ.2.2.1 43 k = nI c.1 ∧ τ.2.2.1 44 k = nI c.2.1 ∧ (1 ≤ c.1 ∧ c.1 ≤ 4 → τ.2.2.1 45 k = nI c.2.2.1) ∧ (1 ≤ c.1 ∧ c.1 ≤ 4 → τ.2.2.1 46 k = nI c.2.2.2.1) ∧ (c.1 = 4 → τ.2.2.1 47 k = nI c.2.2.2.2.1) ∧ τ.2.2.1 48 k = nI c.2.2.2.2.2.1 ∧ τ.2.2.2 56 k = c.2.2.2.2.2.2.1
def InvD (τ : Tw) (m : Nat) : Prop := ∀ j, j < m → (∃ q, q < 20 ∧ τ.2.2.1 45 j = nI q) ∧ (∃ q, q < 20 ∧ τ.2.2.1 46 j = nI q) ∧ ∃ q, q < 20 ∧ τ.2.2.1 47 j = nI q
set_option maxHeartbeats 4000000 in
set_option maxRecDepth 100000 in
/-- a loop of cards -/
theorem t_cards1 {pre post : List ACell} (hp : pre.length = 56) {f : Nat → Int32} {n : Nat} (hn : n ≤ 500) {nn : Int32} {Q : Qfun} : ∀ (fuel : Nat) (cs : List Cd) (t : Tok) (τ0 : Tw), n < t.2.1 + fuel → t.2.1 ≤ n → τ0.1 30 = nI n → τ0.2.2.1 28 = f → TkOk τ0 t → TkW n t → τ0.1 33 = 0 → cs.length ≤ 40 → τ0.1 42 = nI cs.length → InvN τ0 → CdsAt τ0 cs → (∀ τ1 e, pzAll f n fuel cs t = .inl e → Sx [33, 34, 35, 36, 37, 38, 42] [39, 40] [49, 50, 51, 52, 53, 54, 55] [57] τ1 τ0 → InvN τ1 → Bd τ1 e → E cX4_cards (RX4, (some .int), 4, 5, (0, 0), false, []) Q noX 0 0 78 [some (.ref 56), some (.int nn), none, none] [] (TW pre τ1 post)) → (∀ τ1 cs1, pzAll f n fuel cs t = .inr cs1 → Sx [33, 34, 35, 36, 37, 38, 42] [39, 40] [49, 50, 51, 52, 53, 54, 55] [57] τ1 τ0 → InvN τ1 → CdsAt τ1 cs1 → τ1.1 42 = nI cs1.length → cs1.length ≤ 40 → τ1.1 33 = 0 → E cX4_cards (RX4, (some .int), 4, 5, (0, 0), false, []) Q noX 0 0 78 [some (.ref 56), some (.int nn), none, none] [] (TW pre τ1 post)) →
    E cX4_cards (RX4, (some .int), 4, 5, (0, 0), false, []) Q noX 0 0 57 [some (.ref 56), some (.int nn), none, none] [] (TW pre τ0 post) := by
  intro fuel
  induction fuel with
  | zero => intro cs t τ0 hf hle0 e30 e28 hT hW h33 hm40 h42 hI hcs hE1 hE2; exact absurd hf (by omega)
  | succ fuel ih =>
    intro cs t τ0 hf hle0 e30 e28 hT hW h33 hm40 h42 hI hcs hE1 hE2
    have hw : t.1 ≤ 4 := hW.1
    refine e_aload_n dX4_cards_57 0 rfl rfl rfl ?_
    refine e_getf (v := .int (τ0.1 33)) dX4_cards_58 rfl fX4_400 (tw_o hp) rfl ?_
    refine e_top (congrArg Value.int h33) ?_
    refine e_if_ne_f (by decide) 78 dX4_cards_61 (by decide) ?_
    refine e_aload_n dX4_cards_64 0 rfl rfl rfl ?_
    refine e_getf (v := .int (τ0.1 35)) dX4_cards_65 rfl fX4_375 (tw_o hp) rfl ?_
    refine e_top (congrArg Value.int hT.1) ?_
    refine e_if_eqN t.1 78 (by omega) dX4_cards_68 (by decide) (fun h68 => ?_) (fun h68 => ?_)
    · exact hE2 τ0 cs (by rw [pzAll, if_pos h68]) Sx.rf hI hcs h42 hm40 h33
    · refine e_aload_n dX4_cards_71 0 rfl rfl rfl ?_
      refine e_callVQ (As := []) (rest := []) dX4_cards_72 rfl mvX4_448 (tw_o hp) rfl (t_readCard hp hn e30 e28 hT hW h33 hm40 h42 hI) (Nat.le_of_ble_eq_true rfl) rfl rfl (Nat.le_of_ble_eq_true rfl) (Nat.zero_le _) (Nat.zero_le _) (fun v0 M0 h0 _ => ?_)
      obtain ⟨τ1, rfl, rfl, hS_1, hl_1, hI_1, ⟨e_1, eq_1, hB_1⟩ | ⟨x_1, eq_1, hC_1, h33_1, h42_1, hT_1, hW_1, hw_1, hpl_1⟩⟩ := h0
      · have hb1_ := hB_1.2.1
        have hb2_ := hB_1.2.2.1
        refine e_goto 57 dX4_cards_75 (by decide) ?_
        refine e_aload_n dX4_cards_57 0 rfl rfl rfl ?_
        refine e_getf (v := .int (τ1.1 33)) dX4_cards_58 rfl fX4_400 (tw_o hp) rfl ?_
        refine e_top (congrArg Value.int hB_1.1) ?_
        refine e_if_neN e_1.1 78 (by omega) dX4_cards_61 (by decide) (fun h61 => ?_) (fun h61 => ?_)
        · exact hE1 τ1 e_1 (by rw [pzAll, if_neg h68, eq_1]; rfl) hS_1 hI_1 hB_1
        · exact absurd h61 (by omega)
      · refine e_goto 57 dX4_cards_75 (by decide) ?_
        have hlt := pzCard_40 eq_1 hm40
        have eA : pzAll f n (fuel + 1) cs t = pzAll f n fuel (cs ++ [x_1.1]) x_1.2 := by rw [pzAll, if_neg h68, eq_1]; rfl
        rw [eA] at hE1 hE2
        have hle : x_1.2.2.1 ≤ n := Nat.le_trans hW_1.2.1 hW_1.2.2.1
        refine ih (cs ++ [x_1.1]) x_1.2 τ1 (by omega) hle ((hS_1.1 30 (by decide)).trans e30) ((hS_1.2.2.1 28 (by simp)).trans e28) hT_1 hW_1 h33_1 (by rw [List.length_append]; exact hlt) (by rw [List.length_append]; exact h42_1) hI_1 (hcs.push hl_1 hC_1) (fun τ' e h1 h2 h3 h4 => hE1 τ' e h1 (h2.trans hS_1) h3 h4) (fun τ' cs' h1 h2 h3 h4 h5 h6 h7 => hE2 τ' cs' h1 (h2.trans hS_1) h3 h4 h5 h6 h7)

theorem kma {k a : Nat} (hk : k < 2147483648) (ha : a < 2147483648) : nI k - nI a < 0 ↔ k < a := by
  have h1 : (nI k - nI a).toInt = (k : Int) - (a : Int) := by
    rw [Int32.toInt_sub, nI_toInt hk, nI_toInt ha]
    exact Jvm.LawKit.bmod32 (by omega) (by omega)
  rw [Int32.lt_iff_toInt_lt, h1, show (0 : Int32).toInt = 0 from rfl]
  omega
theorem kma2 {k a m : Nat} (hk : k < m) (hm : m < 2147483648) (ha : a < 2147483648) : nI k - nI a ≤ nI m := by
  have h1 : (nI k - nI a).toInt = (k : Int) - (a : Int) := by
    rw [Int32.toInt_sub, nI_toInt (by omega), nI_toInt ha]
    exact Jvm.LawKit.bmod32 (by omega) (by omega)
  rw [Int32.le_iff_toInt_le, h1, nI_toInt hm]
  omega
set_option maxHeartbeats 4000000 in
set_option maxRecDepth 100000 in
/-- a loop of cards -/
theorem t_cards2 {pre post : List ACell} (hp : pre.length = 56) {nn : Int32} {cs : List Cd} {τ0 : Tw} (h33 : τ0.1 33 = 0) (hm40 : cs.length ≤ 40) (h42 : τ0.1 42 = nI cs.length) (hI : InvN τ0) (hcs : CdsAt τ0 cs) (hcb : ∀ (k : Nat) (c : Cd), cs[k]? = some c → c.1 ≤ 7 ∧ c.2.1 ≤ 40) {Q : Qfun} : ∀ (fuel : Nat) (k : Nat), k ≤ cs.length → cs.length < k + fuel → (∀ τ1 e, pzCk cs fuel k = some e → Sx [33, 34, 35, 36, 37, 38, 42] [39, 40] [49, 50, 51, 52, 53, 54, 55] [57] τ1 τ0 → InvN τ1 → Bd τ1 e → E cX4_cards (RX4, (some .int), 4, 5, (0, 0), false, []) Q noX 0 0 170 [some (.ref 56), some (.int nn), none, none] [] (TW pre τ1 post)) → (pzCk cs fuel k = none → E cX4_cards (RX4, (some .int), 4, 5, (0, 0), false, []) Q noX 0 0 170 [some (.ref 56), some (.int nn), none, none] [] (TW pre τ0 post)) →
    E cX4_cards (RX4, (some .int), 4, 5, (0, 0), false, []) Q noX 0 0 80 [some (.ref 56), some (.int nn), some (.int (nI k)), none] [] (TW pre τ0 post) := by
  intro fuel
  induction fuel with
  | zero => intro k hkm hf hE1 hE2; exact absurd hf (by omega)
  | succ fuel ih =>
    intro k hkm hf hE1 hE2
    refine e_aload_n dX4_cards_80 0 rfl rfl rfl ?_
    refine e_getf (v := .int (τ0.1 33)) dX4_cards_81 rfl fX4_400 (tw_o hp) rfl ?_
    refine e_top (congrArg Value.int h33) ?_
    refine e_if_ne_f (by decide) 170 dX4_cards_84 (by decide) ?_
    refine e_iload_n dX4_cards_87 2 rfl rfl ?_
    refine e_aload_n dX4_cards_88 0 rfl rfl rfl ?_
    refine e_getf (v := .int (τ0.1 42)) dX4_cards_89 rfl fX4_427 (tw_o hp) rfl ?_
    refine e_top (congrArg Value.int h42) ?_
    refine e_icmp_geN k cs.length 170 (by omega) (by omega) dX4_cards_92 (by decide) (fun h92 => ?_) (fun h92 => ?_)
    · refine e_forget (i := 2) (ln_s (ln_s ln_0)) ?_
      exact hE2 (by rw [pzCk, List.getElem?_eq_none (by omega)])
    · obtain ⟨c, hk⟩ : ∃ c, cs[k]? = some c := ⟨_, List.getElem?_eq_getElem (by omega)⟩
      have hc := hcs k c hk
      have hB := hcb k c hk
      refine e_aload_n dX4_cards_95 0 rfl rfl rfl ?_
      refine e_getf (v := .ref 81) dX4_cards_96 rfl fX4_101 (tw_o hp) rfl ?_
      refine e_iload_n dX4_cards_99 2 rfl rfl ?_
      refine e_iald (f := τ0.2.2.1 49) (j := k) dX4_cards_100 (tw_a49 hp) rfl (by omega) (by decide) ?_
      refine e_top (congrArg Value.int hc.1) ?_
      refine e_bipush 6 dX4_cards_101 rfl ?_
      refine e_icmp_neN c.1 6 117 (by omega) (by omega) dX4_cards_103 (by decide) (fun h103 => ?_) (fun h103 => ?_)
      · refine e_aload_n dX4_cards_117 0 rfl rfl rfl ?_
        refine e_getf (v := .ref 81) dX4_cards_118 rfl fX4_101 (tw_o hp) rfl ?_
        refine e_iload_n dX4_cards_121 2 rfl rfl ?_
        refine e_iald (f := τ0.2.2.1 49) (j := k) dX4_cards_122 (tw_a49 hp) rfl (by omega) (by decide) ?_
        refine e_top (congrArg Value.int hc.1) ?_
        refine e_bipush 7 dX4_cards_123 rfl ?_
        refine e_icmp_neN c.1 7 139 (by omega) (by omega) dX4_cards_125 (by decide) (fun h125 => ?_) (fun h125 => ?_)
        · refine e_iload_n dX4_cards_139 2 rfl rfl ?_
          refine e_istore_n dX4_cards_140 3 rfl (ls_s (ls_s (ls_1 rfl))) (Nat.le_of_ble_eq_true rfl) ?_
          refine e_iload_n dX4_cards_141 3 rfl rfl ?_
          refine e_if_lt 153 dX4_cards_142 (by decide) (fun h142 => ?_) (fun h142 => ?_)
          · exact absurd h142 (nI_pos (by omega))
          · refine e_iload_n dX4_cards_145 3 rfl rfl ?_
            refine e_aload_n dX4_cards_146 0 rfl rfl rfl ?_
            refine e_getf (v := .int (τ0.1 42)) dX4_cards_147 rfl fX4_427 (tw_o hp) rfl ?_
            refine e_top (congrArg Value.int h42) ?_
            refine e_icmp_leN k cs.length 164 (by omega) (by omega) dX4_cards_150 (by decide) (fun h150 => ?_) (fun h150 => ?_)
            · refine e_incN k (k + 1) (inc1 _) dX4_cards_164 rfl (ls_s (ls_1 rfl)) (Nat.le_of_ble_eq_true rfl) ?_
              refine e_goto 80 dX4_cards_167 (by decide) ?_
              refine e_forget (i := 3) (ln_s (ln_s (ln_s ln_0))) ?_
              have eA : pzCk cs (fuel + 1) k = pzCk cs fuel (k + 1) := by rw [pzCk, hk]; exact if_neg (fun z => z.elim (fun z => h103 z.1) (fun z => h125 z.1))
              rw [eA] at hE1 hE2
              exact ih (k + 1) (by omega) (by omega) hE1 hE2
            · exact absurd h150 (by omega)
        · refine e_iload_n dX4_cards_128 2 rfl rfl ?_
          refine e_aload_n dX4_cards_129 0 rfl rfl rfl ?_
          refine e_getf (v := .ref 82) dX4_cards_130 rfl fX4_104 (tw_o hp) rfl ?_
          refine e_iload_n dX4_cards_133 2 rfl rfl ?_
          refine e_iald (f := τ0.2.2.1 50) (j := k) dX4_cards_134 (tw_a50 hp) rfl (by omega) (by decide) ?_
          refine e_top (congrArg Value.int hc.2.1) ?_
          refine e_iaddN k c.2.1 dX4_cards_135 ?_
          refine e_goto 140 dX4_cards_136 (by decide) ?_
          refine e_istore_n dX4_cards_140 3 rfl (ls_s (ls_s (ls_1 rfl))) (Nat.le_of_ble_eq_true rfl) ?_
          refine e_iload_n dX4_cards_141 3 rfl rfl ?_
          refine e_if_lt 153 dX4_cards_142 (by decide) (fun h142 => ?_) (fun h142 => ?_)
          · exact absurd h142 (nI_pos (by omega))
          · refine e_iload_n dX4_cards_145 3 rfl rfl ?_
            refine e_aload_n dX4_cards_146 0 rfl rfl rfl ?_
            refine e_getf (v := .int (τ0.1 42)) dX4_cards_147 rfl fX4_427 (tw_o hp) rfl ?_
            refine e_top (congrArg Value.int h42) ?_
            refine e_icmp_leN (k + c.2.1) cs.length 164 (by omega) (by omega) dX4_cards_150 (by decide) (fun h150 => ?_) (fun h150 => ?_)
            · refine e_incN k (k + 1) (inc1 _) dX4_cards_164 rfl (ls_s (ls_1 rfl)) (Nat.le_of_ble_eq_true rfl) ?_
              refine e_goto 80 dX4_cards_167 (by decide) ?_
              refine e_forget (i := 3) (ln_s (ln_s (ln_s ln_0))) ?_
              have eA : pzCk cs (fuel + 1) k = pzCk cs fuel (k + 1) := by rw [pzCk, hk]; exact if_neg (fun z => z.elim (fun z => absurd z.1 (by omega)) (fun z => absurd z.2 (by omega)))
              rw [eA] at hE1 hE2
              exact ih (k + 1) (by omega) (by omega) hE1 hE2
            · refine e_aload_n dX4_cards_153 0 rfl rfl rfl ?_
              refine e_iconst 5 dX4_cards_154 rfl ?_
              refine e_aload_n dX4_cards_155 0 rfl rfl rfl ?_
              refine e_getf (v := .ref 87) dX4_cards_156 rfl fX4_119 (tw_o hp) rfl ?_
              refine e_iload_n dX4_cards_159 2 rfl rfl ?_
              refine e_iald (f := τ0.2.2.1 55) (j := k) dX4_cards_160 (tw_a55 hp) rfl (by omega) (by decide) ?_
              refine e_top (congrArg Value.int (hc.2.2.2.2.2.2.2 (by omega))) ?_
              refine e_callV0 (As := [.int 5, .int (nI c.2.2.2.2.2.2.2)]) (rest := []) dX4_cards_161 rfl mvX4_406 (tw_o hp) rfl (t_fail0 hp 5 (nI c.2.2.2.2.2.2.2) (by exact h33)) (Nat.le_of_ble_eq_true rfl) rfl rfl (Nat.le_of_ble_eq_true rfl) (Nat.zero_le _) (Nat.zero_le _) ?_
              refine e_incN k (k + 1) (inc1 _) dX4_cards_164 rfl (ls_s (ls_1 rfl)) (Nat.le_of_ble_eq_true rfl) ?_
              refine e_goto 80 dX4_cards_167 (by decide) ?_
              refine e_aload_n dX4_cards_80 0 rfl rfl rfl ?_
              refine e_getf (v := .int 5) dX4_cards_81 rfl fX4_400 (tw_o hp) rfl ?_
              refine e_if_ne_t 170 (by decide) dX4_cards_84 (by decide) ?_
              refine e_forget (i := 2) (ln_s (ln_s ln_0)) ?_
              refine e_forget (i := 3) (ln_s (ln_s (ln_s ln_0))) ?_
              exact hE1 _ (5, c.2.2.2.2.2.2.2) (by rw [pzCk, hk]; exact if_pos (Or.inr ⟨h125, by omega⟩)) ((Sx.rf.I _ (by decide)).I _ (by decide)) (by exact hI) ⟨rfl, by show 0 < 5; decide, by show 5 ≤ 5; decide, rfl⟩
      · refine e_iload_n dX4_cards_106 2 rfl rfl ?_
        refine e_aload_n dX4_cards_107 0 rfl rfl rfl ?_
        refine e_getf (v := .ref 82) dX4_cards_108 rfl fX4_104 (tw_o hp) rfl ?_
        refine e_iload_n dX4_cards_111 2 rfl rfl ?_
        refine e_iald (f := τ0.2.2.1 50) (j := k) dX4_cards_112 (tw_a50 hp) rfl (by omega) (by decide) ?_
        refine e_top (congrArg Value.int hc.2.1) ?_
        refine e_isub dX4_cards_113 ?_
        refine e_goto 140 dX4_cards_114 (by decide) ?_
        refine e_istore_n dX4_cards_140 3 rfl (ls_s (ls_s (ls_1 rfl))) (Nat.le_of_ble_eq_true rfl) ?_
        refine e_iload_n dX4_cards_141 3 rfl rfl ?_
        refine e_if_lt 153 dX4_cards_142 (by decide) (fun h142 => ?_) (fun h142 => ?_)
        · refine e_aload_n dX4_cards_153 0 rfl rfl rfl ?_
          refine e_iconst 5 dX4_cards_154 rfl ?_
          refine e_aload_n dX4_cards_155 0 rfl rfl rfl ?_
          refine e_getf (v := .ref 87) dX4_cards_156 rfl fX4_119 (tw_o hp) rfl ?_
          refine e_iload_n dX4_cards_159 2 rfl rfl ?_
          refine e_iald (f := τ0.2.2.1 55) (j := k) dX4_cards_160 (tw_a55 hp) rfl (by omega) (by decide) ?_
          refine e_top (congrArg Value.int (hc.2.2.2.2.2.2.2 (by omega))) ?_
          refine e_callV0 (As := [.int 5, .int (nI c.2.2.2.2.2.2.2)]) (rest := []) dX4_cards_161 rfl mvX4_406 (tw_o hp) rfl (t_fail0 hp 5 (nI c.2.2.2.2.2.2.2) (by exact h33)) (Nat.le_of_ble_eq_true rfl) rfl rfl (Nat.le_of_ble_eq_true rfl) (Nat.zero_le _) (Nat.zero_le _) ?_
          refine e_incN k (k + 1) (inc1 _) dX4_cards_164 rfl (ls_s (ls_1 rfl)) (Nat.le_of_ble_eq_true rfl) ?_
          refine e_goto 80 dX4_cards_167 (by decide) ?_
          refine e_aload_n dX4_cards_80 0 rfl rfl rfl ?_
          refine e_getf (v := .int 5) dX4_cards_81 rfl fX4_400 (tw_o hp) rfl ?_
          refine e_if_ne_t 170 (by decide) dX4_cards_84 (by decide) ?_
          refine e_forget (i := 2) (ln_s (ln_s ln_0)) ?_
          refine e_forget (i := 3) (ln_s (ln_s (ln_s ln_0))) ?_
          exact hE1 _ (5, c.2.2.2.2.2.2.2) (by rw [pzCk, hk]; exact if_pos (Or.inl ⟨h103, (kma (by omega) (by omega)).mp h142⟩)) ((Sx.rf.I _ (by decide)).I _ (by decide)) (by exact hI) ⟨rfl, by show 0 < 5; decide, by show 5 ≤ 5; decide, rfl⟩
        · refine e_iload_n dX4_cards_145 3 rfl rfl ?_
          refine e_aload_n dX4_cards_146 0 rfl rfl rfl ?_
          refine e_getf (v := .int (τ0.1 42)) dX4_cards_147 rfl fX4_427 (tw_o hp) rfl ?_
          refine e_top (congrArg Value.int h42) ?_
          refine e_icmp_le 164 dX4_cards_150 (by decide) (fun h150 => ?_) (fun h150 => ?_)
          · refine e_incN k (k + 1) (inc1 _) dX4_cards_164 rfl (ls_s (ls_1 rfl)) (Nat.le_of_ble_eq_true rfl) ?_
            refine e_goto 80 dX4_cards_167 (by decide) ?_
            refine e_forget (i := 3) (ln_s (ln_s (ln_s ln_0))) ?_
            have eA : pzCk cs (fuel + 1) k = pzCk cs fuel (k + 1) := by rw [pzCk, hk]; exact if_neg (fun z => z.elim (fun z => h142 ((kma (by omega) (by omega)).mpr z.2)) (fun z => absurd z.1 (by omega)))
            rw [eA] at hE1 hE2
            exact ih (k + 1) (by omega) (by omega) hE1 hE2
          · exact absurd (kma2 (by omega) (by omega) (by omega)) h150

set_option maxHeartbeats 4000000 in
set_option maxRecDepth 100000 in
/-- a loop of cards -/
theorem t_cards3 {pre post : List ACell} (hp : pre.length = 56) {nn : Int32} {m : Nat} {τ0 : Tw} (hm40 : m ≤ 40) (h42_ : τ0.1 42 = nI m) {Q : Qfun} : ∀ (fuel : Nat) (k : Nat) (τ : Tw), k ≤ m → m < k + fuel → Sx [] [] [43, 44, 45, 46, 47, 48] [56] τ τ0 → (∀ j, j < k → τ.2.2.1 43 j = τ0.2.2.1 49 j ∧ τ.2.2.1 44 j = τ0.2.2.1 50 j ∧ τ.2.2.1 45 j = τ0.2.2.1 51 j ∧ τ.2.2.1 46 j = τ0.2.2.1 52 j ∧ τ.2.2.1 47 j = τ0.2.2.1 53 j ∧ τ.2.2.1 48 j = τ0.2.2.1 54 j ∧ τ.2.2.2 56 j = τ0.2.2.2 57 j) → (∀ τ, Sx [] [] [43, 44, 45, 46, 47, 48] [56] τ τ0 → (∀ j, j < m → τ.2.2.1 43 j = τ0.2.2.1 49 j ∧ τ.2.2.1 44 j = τ0.2.2.1 50 j ∧ τ.2.2.1 45 j = τ0.2.2.1 51 j ∧ τ.2.2.1 46 j = τ0.2.2.1 52 j ∧ τ.2.2.1 47 j = τ0.2.2.1 53 j ∧ τ.2.2.1 48 j = τ0.2.2.1 54 j ∧ τ.2.2.2 56 j = τ0.2.2.2 57 j) → E cX4_cards (RX4, (some .int), 4, 5, (0, 0), false, []) Q noX 0 0 319 [some (.ref 56), some (.int nn), none, none] [] (TW pre τ post)) →
    E cX4_cards (RX4, (some .int), 4, 5, (0, 0), false, []) Q noX 0 0 221 [some (.ref 56), some (.int nn), some (.int (nI k)), none] [] (TW pre τ post) := by
  intro fuel
  induction fuel with
  | zero => intro k τ hkm hf hS hk hE; exact absurd hf (by omega)
  | succ fuel ih =>
    intro k τ hkm hf hS hk hE
    have h42 := (hS.1 42 (by simp)).trans h42_
    refine e_iload_n dX4_cards_221 2 rfl rfl ?_
    refine e_aload_n dX4_cards_222 0 rfl rfl rfl ?_
    refine e_getf (v := .int (τ.1 42)) dX4_cards_223 rfl fX4_427 (tw_o hp) rfl ?_
    refine e_top (congrArg Value.int h42) ?_
    refine e_icmp_geN k m 319 (by omega) (by omega) dX4_cards_226 (by decide) (fun h226 => ?_) (fun h226 => ?_)
    · refine e_forget (i := 2) (ln_s (ln_s ln_0)) ?_
      exact hE τ hS (fun j hj => hk j (by omega))
    · refine e_aload_n dX4_cards_229 0 rfl rfl rfl ?_
      refine e_getf (v := .ref 75) dX4_cards_230 rfl fX4_83 (tw_o hp) rfl ?_
      refine e_iload_n dX4_cards_233 2 rfl rfl ?_
      refine e_aload_n dX4_cards_234 0 rfl rfl rfl ?_
      refine e_getf (v := .ref 81) dX4_cards_235 rfl fX4_101 (tw_o hp) rfl ?_
      refine e_iload_n dX4_cards_238 2 rfl rfl ?_
      refine e_iald (f := τ.2.2.1 49) (j := k) dX4_cards_239 (tw_a49 hp) rfl (by omega) (by decide) ?_
      refine e_iast (f := τ.2.2.1 43) (j := k) dX4_cards_240 (tw_a43 hp) rfl (by omega) (by decide) ?_
      rw [tw_s43 hp]
      refine e_aload_n dX4_cards_241 0 rfl rfl rfl ?_
      refine e_getf (v := .ref 76) dX4_cards_242 rfl fX4_86 (tw_o hp) rfl ?_
      refine e_iload_n dX4_cards_245 2 rfl rfl ?_
      refine e_aload_n dX4_cards_246 0 rfl rfl rfl ?_
      refine e_getf (v := .ref 82) dX4_cards_247 rfl fX4_104 (tw_o hp) rfl ?_
      refine e_iload_n dX4_cards_250 2 rfl rfl ?_
      refine e_iald (f := τ.2.2.1 50) (j := k) dX4_cards_251 (tw_a50 hp) rfl (by omega) (by decide) ?_
      refine e_iast (f := τ.2.2.1 44) (j := k) dX4_cards_252 (tw_a44 hp) rfl (by omega) (by decide) ?_
      rw [tw_s44 hp]
      refine e_aload_n dX4_cards_253 0 rfl rfl rfl ?_
      refine e_getf (v := .ref 77) dX4_cards_254 rfl fX4_89 (tw_o hp) rfl ?_
      refine e_iload_n dX4_cards_257 2 rfl rfl ?_
      refine e_aload_n dX4_cards_258 0 rfl rfl rfl ?_
      refine e_getf (v := .ref 83) dX4_cards_259 rfl fX4_107 (tw_o hp) rfl ?_
      refine e_iload_n dX4_cards_262 2 rfl rfl ?_
      refine e_iald (f := τ.2.2.1 51) (j := k) dX4_cards_263 (tw_a51 hp) rfl (by omega) (by decide) ?_
      refine e_iast (f := τ.2.2.1 45) (j := k) dX4_cards_264 (tw_a45 hp) rfl (by omega) (by decide) ?_
      rw [tw_s45 hp]
      refine e_aload_n dX4_cards_265 0 rfl rfl rfl ?_
      refine e_getf (v := .ref 78) dX4_cards_266 rfl fX4_92 (tw_o hp) rfl ?_
      refine e_iload_n dX4_cards_269 2 rfl rfl ?_
      refine e_aload_n dX4_cards_270 0 rfl rfl rfl ?_
      refine e_getf (v := .ref 84) dX4_cards_271 rfl fX4_110 (tw_o hp) rfl ?_
      refine e_iload_n dX4_cards_274 2 rfl rfl ?_
      refine e_iald (f := τ.2.2.1 52) (j := k) dX4_cards_275 (tw_a52 hp) rfl (by omega) (by decide) ?_
      refine e_iast (f := τ.2.2.1 46) (j := k) dX4_cards_276 (tw_a46 hp) rfl (by omega) (by decide) ?_
      rw [tw_s46 hp]
      refine e_aload_n dX4_cards_277 0 rfl rfl rfl ?_
      refine e_getf (v := .ref 79) dX4_cards_278 rfl fX4_95 (tw_o hp) rfl ?_
      refine e_iload_n dX4_cards_281 2 rfl rfl ?_
      refine e_aload_n dX4_cards_282 0 rfl rfl rfl ?_
      refine e_getf (v := .ref 85) dX4_cards_283 rfl fX4_113 (tw_o hp) rfl ?_
      refine e_iload_n dX4_cards_286 2 rfl rfl ?_
      refine e_iald (f := τ.2.2.1 53) (j := k) dX4_cards_287 (tw_a53 hp) rfl (by omega) (by decide) ?_
      refine e_iast (f := τ.2.2.1 47) (j := k) dX4_cards_288 (tw_a47 hp) rfl (by omega) (by decide) ?_
      rw [tw_s47 hp]
      refine e_aload_n dX4_cards_289 0 rfl rfl rfl ?_
      refine e_getf (v := .ref 80) dX4_cards_290 rfl fX4_98 (tw_o hp) rfl ?_
      refine e_iload_n dX4_cards_293 2 rfl rfl ?_
      refine e_aload_n dX4_cards_294 0 rfl rfl rfl ?_
      refine e_getf (v := .ref 86) dX4_cards_295 rfl fX4_116 (tw_o hp) rfl ?_
      refine e_iload_n dX4_cards_298 2 rfl rfl ?_
      refine e_iald (f := τ.2.2.1 54) (j := k) dX4_cards_299 (tw_a54 hp) rfl (by omega) (by decide) ?_
      refine e_iast (f := τ.2.2.1 48) (j := k) dX4_cards_300 (tw_a48 hp) rfl (by omega) (by decide) ?_
      rw [tw_s48 hp]
      refine e_aload_n dX4_cards_301 0 rfl rfl rfl ?_
      refine e_getf (v := .ref 88) dX4_cards_302 rfl fX4_122 (tw_o hp) rfl ?_
      refine e_iload_n dX4_cards_305 2 rfl rfl ?_
      refine e_aload_n dX4_cards_306 0 rfl rfl rfl ?_
      refine e_getf (v := .ref 89) dX4_cards_307 rfl fX4_125 (tw_o hp) rfl ?_
      refine e_iload_n dX4_cards_310 2 rfl rfl ?_
      refine e_lald (f := τ.2.2.2 57) (j := k) dX4_cards_311 (tw_a57 hp) rfl (by omega) (by decide) ?_
      refine e_last (f := τ.2.2.2 56) (j := k) dX4_cards_312 (tw_a56 hp) rfl (by omega) (by decide) ?_
      rw [tw_s56 hp]
      refine e_incN k (k + 1) (inc1 _) dX4_cards_313 rfl (ls_s (ls_1 rfl)) (Nat.le_of_ble_eq_true rfl) ?_
      refine e_goto 221 dX4_cards_316 (by decide) ?_
      refine ih (k + 1) _ (by omega) (by omega) (((((((hS.A _ (by decide)).A _ (by decide)).A _ (by decide)).A _ (by decide)).A _ (by decide)).A _ (by decide)).B _ (by decide)) (fun j hj => ?_) hE
      refine ⟨?_, ?_, ?_, ?_, ?_, ?_, ?_⟩
      · show upd (τ.2.2.1 43) k (τ.2.2.1 49 k) j = _
        by_cases e : j = k
        · subst e; rw [pk_us, hS.2.2.1 49 (by decide)]
        · rw [pk_un e]; exact (hk j (by omega)).1
      · show upd (τ.2.2.1 44) k (τ.2.2.1 50 k) j = _
        by_cases e : j = k
        · subst e; rw [pk_us, hS.2.2.1 50 (by decide)]
        · rw [pk_un e]; exact (hk j (by omega)).2.1
      · show upd (τ.2.2.1 45) k (τ.2.2.1 51 k) j = _
        by_cases e : j = k
        · subst e; rw [pk_us, hS.2.2.1 51 (by decide)]
        · rw [pk_un e]; exact (hk j (by omega)).2.2.1
      · show upd (τ.2.2.1 46) k (τ.2.2.1 52 k) j = _
        by_cases e : j = k
        · subst e; rw [pk_us, hS.2.2.1 52 (by decide)]
        · rw [pk_un e]; exact (hk j (by omega)).2.2.2.1
      · show upd (τ.2.2.1 47) k (τ.2.2.1 53 k) j = _
        by_cases e : j = k
        · subst e; rw [pk_us, hS.2.2.1 53 (by decide)]
        · rw [pk_un e]; exact (hk j (by omega)).2.2.2.2.1
      · show upd (τ.2.2.1 48) k (τ.2.2.1 54 k) j = _
        by_cases e : j = k
        · subst e; rw [pk_us, hS.2.2.1 54 (by decide)]
        · rw [pk_un e]; exact (hk j (by omega)).2.2.2.2.2.1
      · show vp_updL (τ.2.2.2 56) k (τ.2.2.2 57 k) j = _
        by_cases e : j = k
        · subst e; rw [pk_uLs, hS.2.2.2 57 (by decide)]
        · rw [pk_uLn e]; exact (hk j (by omega)).2.2.2.2.2.2

def CaQ (n : Int32) (τ0 : Tw) (v : Option Value) (τ1 : Tw) : Prop :=
  ((n < 0 ∨ τ0.1 29 < n) ∧ v = some (.int (-1)) ∧ τ1 = bE τ0 5) ∨
  (¬ (n < 0 ∨ τ0.1 29 < n) ∧ Sx [0, 1, 29, 30, 31, 32, 33, 34, 35, 36, 37, 38, 41, 42] [39, 40] [43, 44, 45, 46, 47, 48, 49, 50, 51, 52, 53, 54, 55] [56, 57] τ1 τ0 ∧ InvN τ1 ∧ τ1.1 1 = 0 ∧ τ1.1 29 = 0 ∧
    ((∃ e, pars (τ0.2.2.1 28) (ix n) = .inl e ∧ v = some (.int (-1)) ∧ τ1.1 0 = 10 ∧ τ1.1 31 = nI e.1 ∧ τ1.1 32 = nI e.2 ∧ τ1.1 41 = τ0.1 41 ∧ (∀ k ∈ [43, 44, 45, 46, 47, 48], τ1.2.2.1 k = τ0.2.2.1 k) ∧ τ1.2.2.2 56 = τ0.2.2.2 56) ∨
     ∃ cs, pars (τ0.2.2.1 28) (ix n) = .inr cs ∧ cs.length ≤ 40 ∧ v = some (.int (nI cs.length)) ∧ τ1.1 0 = 0 ∧ τ1.1 31 = 0 ∧ τ1.1 32 = -1 ∧ τ1.1 41 = nI cs.length ∧ (∀ k c, cs[k]? = some c → CdIn τ1 k c) ∧ InvD τ1 cs.length))
