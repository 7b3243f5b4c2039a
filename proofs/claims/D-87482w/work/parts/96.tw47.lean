/-! ===== the twin: cards, whole ===== -/
/-- what holds of a card that is read -/
def CdB (c : Cd) : Prop := c.1 ≤ 7 ∧ (c.1 < 6 → c.2.1 < 20) ∧ c.2.2.1 < 20 ∧ c.2.2.2.1 < 20 ∧ c.2.2.2.2.1 < 20 ∧ c.2.2.2.2.2.1 ≤ 2 ∧ (6 ≤ c.1 → 1 ≤ c.2.1) ∧ c.2.1 ≤ 40
section
variable {f : Nat → Int32} {n : Nat}
theorem bdE_inr {α β : Type} {x : Er ⊕ α} {g : α → Er ⊕ β} {y : β} (h : bdE x g = .inr y) : ∃ a, x = .inr a ∧ g a = .inr y := by
  cases x with
  | inl e => cases h
  | inr a => exact ⟨a, rfl, h⟩
theorem pzCnt_b {lo hi : Nat} {t : Tok} {x : Nat × Tok} (hlo : lo ≤ 100) (hhi : hi ≤ 100) (h : pzCnt f n lo hi t = .inr x) : lo ≤ x.1 ∧ x.1 ≤ hi := by
  unfold pzCnt at h
  split at h
  · cases h
  · split at h
    · rename_i h2
      cases h
      exact (tv_of hhi hlo h2.1 h2.2).2
    · cases h
theorem pzEnd_b {c : Cd} {t : Tok} {x : Cd × Tok} (hc : CdB c) (h : pzEnd f n c t = .inr x) : CdB x.1 := by
  unfold pzEnd at h
  split at h
  · cases h; exact hc
  · cases h
theorem pz168_b {K a b c : Nat} {v : Int64} {t : Tok} {x : Cd × Tok} (hK : K ≤ 5) (ha : a < 20) (hb : b < 20) (hc : c < 20) (h : pz168 f n K a b c v t = .inr x) : CdB x.1 := by
  unfold pz168 at h
  split at h
  · obtain ⟨y, h1, h2⟩ := bdE_inr h
    have := pzCnt_b (by omega) (by omega) h1
    exact pzEnd_b (c := (K, a, b, c, y.1, 0, v, 0)) ⟨by show K ≤ 7; omega, fun _ => ha, hb, hc, by show y.1 < 20; omega, Nat.zero_le _, fun z => absurd (show 6 ≤ K from z) (by omega), by show a ≤ 40; omega⟩ h2
  · exact pzEnd_b (c := (K, a, b, c, 0, 0, v, 0)) ⟨by show K ≤ 7; omega, fun _ => ha, hb, hc, by show 0 < 20; omega, Nat.zero_le _, fun z => absurd (show 6 ≤ K from z) (by omega), by show a ≤ 40; omega⟩ h
theorem pz143_b {K a b : Nat} {v : Int64} {t : Tok} {x : Cd × Tok} (hK : K ≤ 5) (ha : a < 20) (hb : b < 20) (h : pz143 f n K a b v t = .inr x) : CdB x.1 := by
  unfold pz143 at h
  split at h
  · obtain ⟨y, h1, h2⟩ := bdE_inr h
    have := pzCnt_b (by omega) (by omega) h1
    exact pz168_b hK ha hb (by omega) h2
  · exact pz168_b hK ha hb (by omega) h
theorem pz118_b {K a : Nat} {v : Int64} {t : Tok} {x : Cd × Tok} (hK : K ≤ 5) (ha : a < 20) (h : pz118 f n K a v t = .inr x) : CdB x.1 := by
  unfold pz118 at h
  split at h
  · obtain ⟨y, h1, h2⟩ := bdE_inr h
    have := pzCnt_b (by omega) (by omega) h1
    exact pz143_b hK ha (by omega) h2
  · exact pz143_b hK ha (by omega) h
theorem pz96_b {K : Nat} {t : Tok} {x : Cd × Tok} (hK : K ≤ 5) (h : pz96 f n K t = .inr x) : CdB x.1 := by
  unfold pz96 at h
  obtain ⟨y, h1, h2⟩ := bdE_inr h
  have := pzCnt_b (by omega) (by omega) h1
  unfold pz109 at h2
  split at h2
  · obtain ⟨z, h3, h4⟩ := bdE_inr h2
    exact pz118_b hK (by omega) h4
  · exact pz118_b hK (by omega) h2
theorem pzIf_b {a : Nat} {t : Tok} {y : Nat × Nat × Tok} (h : pzIf f n a t = .inr y) : y.1 = a ∧ y.2.1 ≤ 2 := by
  unfold pzIf at h
  split at h
  · cases h; exact ⟨rfl, by show 1 ≤ 2; omega⟩
  · split at h
    · cases h; exact ⟨rfl, by show 2 ≤ 2; omega⟩
    · cases h
theorem pz88_b {K : Nat} {t : Tok} {x : Cd × Tok} (hK : K ≤ 7) (hK6 : 6 ≤ K) (h : pz88 f n K t = .inr x) : CdB x.1 := by
  unfold pz88 at h
  obtain ⟨y, h1, h2⟩ := bdE_inr h
  unfold pzJmp at h1
  obtain ⟨z, h3, h4⟩ := bdE_inr h1
  have h5 := pzCnt_b (by omega) (by omega) h3
  have h6 : y.1 = z.1 ∧ y.2.1 ≤ 2 := by
    unfold pzJm2 at h4
    split at h4
    · exact pzIf_b h4
    · cases h4; exact ⟨rfl, Nat.zero_le _⟩
  exact pzEnd_b (c := (K, y.1, 0, 0, 0, y.2.1, 0, t.2.1)) ⟨hK, fun z => absurd (show K < 6 from z) (by omega), by show 0 < 20; omega, by show 0 < 20; omega, by show 0 < 20; omega, h6.2, fun _ => by show 1 ≤ y.1; omega, by show y.1 ≤ 40; omega⟩ h2
theorem pzCard_b {m : Nat} {t : Tok} {x : Cd × Tok} (h : pzCard f n m t = .inr x) : CdB x.1 := by
  have hk : knT t ≤ 8 := by
    unfold knT
    repeat (first | omega | split)
  unfold pzCard at h
  split at h
  · cases h
  · split at h
    · cases h
    · split at h
      · exact pz88_b (by omega) (by omega) h
      · exact pz96_b (by omega) h
theorem pzAll_b : ∀ (q : Nat) (cs : List Cd) (t : Tok) (cs1 : List Cd), pzAll f n q cs t = .inr cs1 → (∀ c ∈ cs, CdB c) → ∀ c ∈ cs1, CdB c
  | 0, cs, t, cs1, h, hc => by
    cases h; exact hc
  | q + 1, cs, t, cs1, h, hc => by
    unfold pzAll at h
    split at h
    · cases h; exact hc
    · obtain ⟨y, h1, h2⟩ := bdE_inr h
      refine pzAll_b q _ _ _ h2 (fun c h3 => ?_)
      rcases List.mem_append.mp h3 with h4 | h4
      · exact hc c h4
      · rw [List.mem_singleton.mp h4]
        exact pzCard_b h1
theorem pzCk_n {cs : List Cd} : ∀ (q k : Nat), pzCk cs q k = none → cs.length < k + q → ∀ j, k ≤ j → ∀ c, cs[j]? = some c → ¬ badJ cs.length j c
  | 0, k, h, hq, j, hj, c, hc => by
    have := (List.getElem?_eq_some_iff.mp hc).1
    omega
  | q + 1, k, h, hq, j, hj, c, hc => by
    unfold pzCk at h
    cases hk : cs[k]? with
    | none =>
      have := (List.getElem?_eq_some_iff.mp hc).1
      rw [List.getElem?_eq_none_iff] at hk
      omega
    | some d =>
      rw [hk] at h
      by_cases hb : badJ cs.length k d
      · exact absurd h (by show ¬ (if badJ cs.length k d then some (5, d.2.2.2.2.2.2.2) else pzCk cs q (k + 1)) = none; rw [if_pos hb]; exact fun z => by cases z)
      · have h2 : pzCk cs q (k + 1) = none := by
          have h3 : (if badJ cs.length k d then some ((5, d.2.2.2.2.2.2.2) : Er) else pzCk cs q (k + 1)) = none := h
          rw [if_neg hb] at h3
          exact h3
        by_cases e : j = k
        · subst e
          rw [hk] at hc
          cases hc
          exact hb
        · exact pzCk_n q (k + 1) h2 (by omega) j (by omega) c hc
end
theorem pars_inr {f : Nat → Int32} {n : Nat} {cs : List Cd} (h : pars f n = .inr cs) (hl : cs.length ≤ 40) : (∀ c ∈ cs, CdB c) ∧ ∀ j c, cs[j]? = some c → ¬ badJ cs.length j c := by
  unfold pars at h
  obtain ⟨y, h1, h2⟩ := bdE_inr h
  have h3 := pzAll_b _ _ _ _ h1 (fun _ h => nomatch h)
  unfold pzFin at h2
  cases hk : pzCk y 41 0 with
  | some e => rw [hk] at h2; cases h2
  | none =>
    rw [hk] at h2
    cases h2
    exact ⟨h3, fun j c hc => pzCk_n 41 0 hk (by omega) j (Nat.zero_le _) c hc⟩
set_option maxHeartbeats 4000000 in
set_option maxRecDepth 100000 in
theorem t_cB170 {pre post : List ACell} (hp : pre.length = 56) {nn : Int32} {τ0 : Tw} {Q : Qfun} {e : Er} (hB : Bd τ0 e) (hQ : Q (some (.int (-1))) (TW pre (tI (tI (tI τ0 31 (nI e.1)) 32 (nI e.2)) 0 10) post)) :
    E cX4_cards (RX4, (some .int), 4, 5, (0, 0), false, []) Q noX 0 0 170 [some (.ref 56), some (.int nn), none, none] [] (TW pre τ0 post) := by
  have hb1 := hB.2.1
  have hb2 := hB.2.2.1
  refine e_aload_n dX4_cards_170 0 rfl rfl rfl ?_
  refine e_aload_n dX4_cards_171 0 rfl rfl rfl ?_
  refine e_getf (v := .int (τ0.1 33)) dX4_cards_172 rfl fX4_400 (tw_o hp) rfl ?_
  refine e_top (congrArg Value.int hB.1) ?_
  refine e_tputI dX4_cards_175 rfl pX4_74 rfl hp (Nat.le_of_ble_eq_true rfl) (tw_f31 _) ?_
  refine e_aload_n dX4_cards_178 0 rfl rfl rfl ?_
  refine e_aload_n dX4_cards_179 0 rfl rfl rfl ?_
  refine e_getf (v := .int (τ0.1 33)) dX4_cards_180 rfl fX4_400 (tw_o hp) rfl ?_
  refine e_top (congrArg Value.int hB.1) ?_
  refine e_if_neN e.1 190 (by omega) dX4_cards_183 (by decide) (fun h183 => ?_) (fun h183 => ?_)
  · refine e_aload_n dX4_cards_190 0 rfl rfl rfl ?_
    refine e_getf (v := .int (τ0.1 34)) dX4_cards_191 rfl fX4_403 (tw_o hp) rfl ?_
    refine e_top (congrArg Value.int hB.2.2.2) ?_
    refine e_tputI dX4_cards_194 rfl pX4_77 rfl hp (Nat.le_of_ble_eq_true rfl) (tw_f32 _) ?_
    refine e_aload_n dX4_cards_197 0 rfl rfl rfl ?_
    refine e_getf (v := .int (τ0.1 33)) dX4_cards_198 rfl fX4_400 (tw_o hp) rfl ?_
    refine e_top (congrArg Value.int hB.1) ?_
    refine e_if_leN e.1 211 (by omega) dX4_cards_201 (by decide) (fun h201 => ?_) (fun h201 => ?_)
    · exact absurd h201 (by omega)
    · refine e_aload_n dX4_cards_204 0 rfl rfl rfl ?_
      refine e_bipush 10 dX4_cards_205 rfl ?_
      refine e_callV1 (As := [.int 10]) (rest := []) dX4_cards_207 rfl mvX4_252 (tw_o hp) rfl (t_refuse hp 10) (Nat.le_of_ble_eq_true rfl) rfl rfl (Nat.le_of_ble_eq_true rfl) (Nat.zero_le _) (Nat.zero_le _) ?_
      refine e_ireturn dX4_cards_210 rfl rfl (Nat.zero_le _) (Nat.zero_le _) ?_
      exact hQ
  · exact absurd h183 (by omega)

set_option maxHeartbeats 4000000 in
set_option maxRecDepth 100000 in
theorem t_cB78 {pre post : List ACell} (hp : pre.length = 56) {nn : Int32} {τ0 : Tw} {Q : Qfun} {e : Er} (hB : Bd τ0 e) (hQ : Q (some (.int (-1))) (TW pre (tI (tI (tI τ0 31 (nI e.1)) 32 (nI e.2)) 0 10) post)) :
    E cX4_cards (RX4, (some .int), 4, 5, (0, 0), false, []) Q noX 0 0 78 [some (.ref 56), some (.int nn), none, none] [] (TW pre τ0 post) := by
  have hb1 := hB.2.1
  have hb2 := hB.2.2.1
  refine e_iconst 0 dX4_cards_78 rfl ?_
  refine e_istore_n dX4_cards_79 2 rfl (ls_s (ls_1 rfl)) (Nat.le_of_ble_eq_true rfl) ?_
  refine e_aload_n dX4_cards_80 0 rfl rfl rfl ?_
  refine e_getf (v := .int (τ0.1 33)) dX4_cards_81 rfl fX4_400 (tw_o hp) rfl ?_
  refine e_top (congrArg Value.int hB.1) ?_
  refine e_if_neN e.1 170 (by omega) dX4_cards_84 (by decide) (fun h84 => ?_) (fun h84 => ?_)
  · refine e_forget (i := 2) (ln_s (ln_s ln_0)) ?_
    exact t_cB170 hp hB hQ
  · exact absurd h84 (by omega)

set_option maxHeartbeats 4000000 in
set_option maxRecDepth 100000 in
theorem t_cG170 {pre post : List ACell} (hp : pre.length = 56) {nn : Int32} {τ0 : Tw} {Q : Qfun} {m : Nat} (hm40 : m ≤ 40) (h33 : τ0.1 33 = 0) (h42 : τ0.1 42 = nI m) (hQ : ∀ τ, Sx [] [] [43, 44, 45, 46, 47, 48] [56] τ (tI (tI (tI τ0 31 0) 32 (-1)) 41 (nI m)) → (∀ j, j < m → τ.2.2.1 43 j = τ0.2.2.1 49 j ∧ τ.2.2.1 44 j = τ0.2.2.1 50 j ∧ τ.2.2.1 45 j = τ0.2.2.1 51 j ∧ τ.2.2.1 46 j = τ0.2.2.1 52 j ∧ τ.2.2.1 47 j = τ0.2.2.1 53 j ∧ τ.2.2.1 48 j = τ0.2.2.1 54 j ∧ τ.2.2.2 56 j = τ0.2.2.2 57 j) → Q (some (.int (nI m))) (TW pre τ post)) :
    E cX4_cards (RX4, (some .int), 4, 5, (0, 0), false, []) Q noX 0 0 170 [some (.ref 56), some (.int nn), none, none] [] (TW pre τ0 post) := by
  refine e_aload_n dX4_cards_170 0 rfl rfl rfl ?_
  refine e_aload_n dX4_cards_171 0 rfl rfl rfl ?_
  refine e_getf (v := .int (τ0.1 33)) dX4_cards_172 rfl fX4_400 (tw_o hp) rfl ?_
  refine e_top (congrArg Value.int h33) ?_
  refine e_tputI dX4_cards_175 rfl pX4_74 rfl hp (Nat.le_of_ble_eq_true rfl) (tw_f31 _) ?_
  refine e_aload_n dX4_cards_178 0 rfl rfl rfl ?_
  refine e_aload_n dX4_cards_179 0 rfl rfl rfl ?_
  refine e_getf (v := .int (τ0.1 33)) dX4_cards_180 rfl fX4_400 (tw_o hp) rfl ?_
  refine e_top (congrArg Value.int h33) ?_
  refine e_if_ne_f (by decide) 190 dX4_cards_183 (by decide) ?_
  refine e_iconst (-1) dX4_cards_186 rfl ?_
  refine e_goto 194 dX4_cards_187 (by decide) ?_
  refine e_tputI dX4_cards_194 rfl pX4_77 rfl hp (Nat.le_of_ble_eq_true rfl) (tw_f32 _) ?_
  refine e_aload_n dX4_cards_197 0 rfl rfl rfl ?_
  refine e_getf (v := .int (τ0.1 33)) dX4_cards_198 rfl fX4_400 (tw_o hp) rfl ?_
  refine e_top (congrArg Value.int h33) ?_
  refine e_if_le_t 211 (by decide) dX4_cards_201 (by decide) ?_
  refine e_aload_n dX4_cards_211 0 rfl rfl rfl ?_
  refine e_aload_n dX4_cards_212 0 rfl rfl rfl ?_
  refine e_getf (v := .int (τ0.1 42)) dX4_cards_213 rfl fX4_427 (tw_o hp) rfl ?_
  refine e_top (congrArg Value.int h42) ?_
  refine e_tputI dX4_cards_216 rfl pX4_80 rfl hp (Nat.le_of_ble_eq_true rfl) (tw_f41 _) ?_
  refine e_iconst 0 dX4_cards_219 rfl ?_
  refine e_istore_n dX4_cards_220 2 rfl (ls_s (ls_1 rfl)) (Nat.le_of_ble_eq_true rfl) ?_
  refine t_cards3 hp (τ0 := tI (tI (tI τ0 31 0) 32 (-1)) 41 (nI m)) hm40 (by exact h42) (m + 1) 0 _ (by omega) (by omega) Sx.rf (fun j hj => absurd hj (by omega)) (fun τ hS hk => ?_)
  have e41 : τ.1 41 = nI m := (hS.1 41 (by simp)).trans rfl
  refine e_aload_n dX4_cards_319 0 rfl rfl rfl ?_
  refine e_getf (v := .int (τ.1 41)) dX4_cards_320 rfl fX4_80 (tw_o hp) rfl ?_
  refine e_top (congrArg Value.int e41) ?_
  refine e_ireturn dX4_cards_323 rfl rfl (Nat.zero_le _) (Nat.zero_le _) ?_
  exact hQ τ hS (fun j hj => hk j hj)

set_option maxHeartbeats 4000000 in
set_option maxRecDepth 100000 in
theorem t_cG78 {pre post : List ACell} (hp : pre.length = 56) {nn : Int32} {τ0 : Tw} {Q : Qfun} {cs : List Cd} (hm40 : cs.length ≤ 40) (h33 : τ0.1 33 = 0) (h42 : τ0.1 42 = nI cs.length) (hI : InvN τ0) (hcs : CdsAt τ0 cs) (hcb : ∀ (k : Nat) (c : Cd), cs[k]? = some c → c.1 ≤ 7 ∧ c.2.1 ≤ 40) (hQ1 : ∀ τ1 e, pzCk cs 41 0 = some e → Sx [33, 34, 35, 36, 37, 38, 42] [39, 40] [49, 50, 51, 52, 53, 54, 55] [57] τ1 τ0 → InvN τ1 → Bd τ1 e → Q (some (.int (-1))) (TW pre (tI (tI (tI τ1 31 (nI e.1)) 32 (nI e.2)) 0 10) post)) (hQ2 : ∀ τ, pzCk cs 41 0 = none → Sx [] [] [43, 44, 45, 46, 47, 48] [56] τ (tI (tI (tI τ0 31 0) 32 (-1)) 41 (nI cs.length)) → (∀ j, j < cs.length → τ.2.2.1 43 j = τ0.2.2.1 49 j ∧ τ.2.2.1 44 j = τ0.2.2.1 50 j ∧ τ.2.2.1 45 j = τ0.2.2.1 51 j ∧ τ.2.2.1 46 j = τ0.2.2.1 52 j ∧ τ.2.2.1 47 j = τ0.2.2.1 53 j ∧ τ.2.2.1 48 j = τ0.2.2.1 54 j ∧ τ.2.2.2 56 j = τ0.2.2.2 57 j) → Q (some (.int (nI cs.length))) (TW pre τ post)) :
    E cX4_cards (RX4, (some .int), 4, 5, (0, 0), false, []) Q noX 0 0 78 [some (.ref 56), some (.int nn), none, none] [] (TW pre τ0 post) := by
  refine e_iconst 0 dX4_cards_78 rfl ?_
  refine e_istore_n dX4_cards_79 2 rfl (ls_s (ls_1 rfl)) (Nat.le_of_ble_eq_true rfl) ?_
  refine t_cards2 hp h33 hm40 h42 hI hcs hcb 41 0 (by omega) (by omega) (fun τ1 e h1 h2 h3 h4 => t_cB170 hp h4 (hQ1 τ1 e h1 h2 h3 h4)) (fun h1 => t_cG170 hp hm40 h33 h42 (fun τ h2 h3 => hQ2 τ h1 h2 h3))

set_option maxHeartbeats 4000000 in
set_option maxRecDepth 100000 in
/-- WheelTablesModel.cards -/
theorem t_cards {pre post : List ACell} {τ0 : Tw} (hp : pre.length = 56) (hI : InvN τ0) (hF : InvF τ0) (n : Int32) : Ct yX4_cards (ws_ yX4_cards cX4_cards 4 (some .int)) 5 0 0 [.ref 56, .int n] (TW pre τ0 post) (fun v0 N => ∃ τ1, N = TW pre τ1 post ∧ CaQ n τ0 v0 τ1) noX := by
  obtain ⟨T, hT5, hT0⟩ := hF
  refine Ct.of (ini := false) (ls := [some (.ref 56), some (.int n), none, none]) (by decide) (Nat.le_of_ble_eq_true rfl) (fun h => by cases h) rfl ?_
  refine e_aload_n dX4_cards_0 0 rfl rfl rfl ?_
  refine e_iconst 0 dX4_cards_1 rfl ?_
  refine e_tputI dX4_cards_2 rfl pX4_212 rfl hp (Nat.le_of_ble_eq_true rfl) (tw_f1 _) ?_
  refine e_aload_n dX4_cards_5 0 rfl rfl rfl ?_
  refine e_iconst 0 dX4_cards_6 rfl ?_
  refine e_tputI dX4_cards_7 rfl pX4_215 rfl hp (Nat.le_of_ble_eq_true rfl) (tw_f0 _) ?_
  refine e_iload_n dX4_cards_10 1 rfl rfl ?_
  refine e_if_lt 22 dX4_cards_11 (by decide) (fun h11 => ?_) (fun h11 => ?_)
  · refine e_aload_n dX4_cards_22 0 rfl rfl rfl ?_
    refine e_iconst 5 dX4_cards_23 rfl ?_
    refine e_callV1 (As := [.int 5]) (rest := []) dX4_cards_24 rfl mvX4_252 (tw_o hp) rfl (t_refuse hp 5) (Nat.le_of_ble_eq_true rfl) rfl rfl (Nat.le_of_ble_eq_true rfl) (Nat.zero_le _) (Nat.zero_le _) ?_
    refine e_ireturn dX4_cards_27 rfl rfl (Nat.zero_le _) (Nat.zero_le _) ?_
    exact ⟨_, rfl, Or.inl ⟨Or.inl h11, rfl, rfl⟩⟩
  · refine e_iload_n dX4_cards_14 1 rfl rfl ?_
    refine e_aload_n dX4_cards_15 0 rfl rfl rfl ?_
    refine e_getf (v := .int (τ0.1 29)) dX4_cards_16 rfl fX4_442 (tw_o hp) rfl ?_
    refine e_top (congrArg Value.int hT0) ?_
    refine e_icmp_le 28 dX4_cards_19 (by decide) (fun h19 => ?_) (fun h19 => ?_)
    · obtain ⟨q, hq, rfl⟩ := in_le (x := n) T (nI_toInt (by omega)) (fun z => h11 z) h19
      refine e_aload_n dX4_cards_28 0 rfl rfl rfl ?_
      refine e_iload_n dX4_cards_29 1 rfl rfl ?_
      refine e_tputI dX4_cards_30 rfl pX4_363 rfl hp (Nat.le_of_ble_eq_true rfl) (tw_f30 _) ?_
      refine e_aload_n dX4_cards_33 0 rfl rfl rfl ?_
      refine e_iconst 0 dX4_cards_34 rfl ?_
      refine e_tputI dX4_cards_35 rfl pX4_442 rfl hp (Nat.le_of_ble_eq_true rfl) (tw_f29 _) ?_
      refine e_aload_n dX4_cards_38 0 rfl rfl rfl ?_
      refine e_iconst 0 dX4_cards_39 rfl ?_
      refine e_tputI dX4_cards_40 rfl pX4_366 rfl hp (Nat.le_of_ble_eq_true rfl) (tw_f37 _) ?_
      refine e_aload_n dX4_cards_43 0 rfl rfl rfl ?_
      refine e_iconst 0 dX4_cards_44 rfl ?_
      refine e_tputI dX4_cards_45 rfl pX4_400 rfl hp (Nat.le_of_ble_eq_true rfl) (tw_f33 _) ?_
      refine e_aload_n dX4_cards_48 0 rfl rfl rfl ?_
      refine e_iconst 0 dX4_cards_49 rfl ?_
      refine e_tputI dX4_cards_50 rfl pX4_427 rfl hp (Nat.le_of_ble_eq_true rfl) (tw_f42 _) ?_
      refine e_aload_n dX4_cards_53 0 rfl rfl rfl ?_
      refine e_callVQ (As := []) (rest := []) dX4_cards_54 rfl mvX4_412 (tw_o hp) rfl (t_next hp (f := τ0.2.2.1 28) (n := q) (by omega) (by exact rfl) (by exact rfl) (p := 0) (by omega) (by exact rfl)) (Nat.le_of_ble_eq_true rfl) rfl rfl (Nat.le_of_ble_eq_true rfl) (Nat.zero_le _) (Nat.zero_le _) (fun v0 M0 h0 _ => ?_)
      obtain ⟨τ1, rfl, rfl, hS_1, hT_1⟩ := h0
      have hS1 : Sx [0, 1, 29, 30, 31, 32, 33, 34, 35, 36, 37, 38, 41, 42] [39, 40] [43, 44, 45, 46, 47, 48, 49, 50, 51, 52, 53, 54, 55] [56, 57] τ1 τ0 := (hS_1.mono (by simp) (by simp) (by simp) (by simp)).trans (((((((Sx.rf.I _ (by decide)).I _ (by decide)).I _ (by decide)).I _ (by decide)).I _ (by decide)).I _ (by decide)).I _ (by decide))
      have hW_1 : TkW q (tokN (τ0.2.2.1 28) q 0) := (tokN_w (by omega)).1
      have hN1 : InvN τ1 := hI.cg (hS_1.2.2.1 51 (by simp)) (hS_1.2.2.1 52 (by simp)) (hS_1.2.2.1 53 (by simp))
      have hix : ix (nI q) = q := ix_nI (by omega)
      have hgd : ¬ (nI q < 0 ∨ τ0.1 29 < nI q) := by
        rw [hT0]
        exact fun z => z.elim (nI_pos (by omega)) (fun z => absurd ((nI_ltN (by omega) (by omega)).mp z) (by omega))
      have hle1 : (tokN (τ0.2.2.1 28) q 0).2.1 ≤ q := Nat.le_trans hW_1.2.1 hW_1.2.2.1
      have fin : ∀ τ2 e, Sx [33, 34, 35, 36, 37, 38, 42] [39, 40] [49, 50, 51, 52, 53, 54, 55] [57] τ2 τ1 → InvN τ2 → pars (τ0.2.2.1 28) q = .inl e → CaQ (nI q) τ0 (some (.int (-1))) (tI (tI (tI τ2 31 (nI e.1)) 32 (nI e.2)) 0 10) := by
        intro τ2 e h2 h3 h1
        refine Or.inr ⟨hgd, (((((h2.mono (by simp) (by simp) (by simp) (by simp)).trans hS1).I _ (by decide)).I _ (by decide)).I _ (by decide)), by exact h3, (h2.1 1 (by decide)).trans ((hS_1.1 1 (by decide)).trans rfl), (h2.1 29 (by decide)).trans ((hS_1.1 29 (by decide)).trans rfl), Or.inl ⟨e, by rw [hix]; exact h1, rfl, rfl, rfl, rfl, (h2.1 41 (by decide)).trans ((hS_1.1 41 (by decide)).trans rfl), fun k hk => ?_, (h2.2.2.2 56 (by decide)).trans ((hS_1.2.2.2 56 (by simp)).trans rfl)⟩⟩
        have hk2 : k ∉ [49, 50, 51, 52, 53, 54, 55] := by
          simp only [List.mem_cons, List.not_mem_nil, or_false] at hk
          rcases hk with rfl | rfl | rfl | rfl | rfl | rfl <;> decide
        exact (h2.2.2.1 k hk2).trans ((hS_1.2.2.1 k (by simp)).trans rfl)
      refine t_cards1 hp (f := τ0.2.2.1 28) (n := q) (by omega) 501 [] (tokN (τ0.2.2.1 28) q 0) τ1 (by omega) hle1 ((hS_1.1 30 (by decide)).trans rfl) ((hS_1.2.2.1 28 (by simp)).trans rfl) hT_1 hW_1 ((hS_1.1 33 (by decide)).trans rfl) (Nat.zero_le _) ((hS_1.1 42 (by decide)).trans rfl) hN1 (fun k c h => by simp at h) (fun τ2 e h1 h2 h3 h4 => ?_) (fun τ2 cs h1 h2 h3 h4 h5 h6 h7 => ?_)
      · exact t_cB78 hp h4 ⟨_, rfl, fin τ2 e h2 h3 (by rw [pars, h1]; rfl)⟩
      · have hcb : ∀ (k : Nat) (c : Cd), cs[k]? = some c → c.1 ≤ 7 ∧ c.2.1 ≤ 40 := fun k c hk => by
          have h8 := pzAll_b _ _ _ _ h1 (fun _ h => nomatch h) c (List.mem_of_getElem? hk)
          exact ⟨h8.1, h8.2.2.2.2.2.2.2⟩
        refine t_cG78 hp h6 h7 h5 h3 h4 hcb (fun τ3 e g1 g2 g3 g4 => ⟨_, rfl, fin τ3 e (g2.trans h2) g3 (by rw [pars, h1]; show pzFin cs = _; rw [pzFin, g1])⟩) (fun τ3 g1 g2 g3 => ⟨_, rfl, Or.inr ⟨hgd, (g2.mono (by simp) (by simp) (by simp) (by simp)).trans ((((((h2.mono (by simp) (by simp) (by simp) (by simp)).trans hS1).I _ (by decide)).I _ (by decide)).I _ (by decide))), ?_, (g2.1 1 (by decide)).trans ((h2.1 1 (by decide)).trans ((hS_1.1 1 (by decide)).trans rfl)), (g2.1 29 (by decide)).trans ((h2.1 29 (by decide)).trans ((hS_1.1 29 (by decide)).trans rfl)), Or.inr ⟨cs, by rw [hix, pars, h1]; show pzFin cs = _; rw [pzFin, g1], h6, rfl, (g2.1 0 (by decide)).trans ((h2.1 0 (by decide)).trans ((hS_1.1 0 (by decide)).trans rfl)), (g2.1 31 (by decide)).trans rfl, (g2.1 32 (by decide)).trans rfl, (g2.1 41 (by decide)).trans rfl, fun k c hk => ?_, fun j hj => ?_⟩⟩⟩)
        · exact h3.cg ((g2.2.2.1 51 (by decide)).trans rfl) ((g2.2.2.1 52 (by decide)).trans rfl) ((g2.2.2.1 53 (by decide)).trans rfl)
        · have hj : k < cs.length := (List.getElem?_eq_some_iff.mp hk).1
          obtain ⟨c1, c2, c3, c4, c5, c6, c7⟩ := g3 k hj
          obtain ⟨d1, d2, d3, d4, d5, d6, d7, d8⟩ := h4 k c hk
          exact ⟨c1.trans d1, c2.trans d2, fun z => c3.trans (d3 z), fun z => c4.trans (d4 z), fun z => c5.trans (d5 z), c6.trans d6, c7.trans d7⟩
        · obtain ⟨c1, c2, c3, c4, c5, c6, c7⟩ := g3 j hj
          obtain ⟨⟨q1, d1, d2⟩, ⟨q2, d3, d4⟩, q3, d5, d6⟩ := h3 j
          exact ⟨⟨q1, d1, c3.trans d2⟩, ⟨q2, d3, c4.trans d4⟩, q3, d5, c5.trans d6⟩
    · refine e_aload_n dX4_cards_22 0 rfl rfl rfl ?_
      refine e_iconst 5 dX4_cards_23 rfl ?_
      refine e_callV1 (As := [.int 5]) (rest := []) dX4_cards_24 rfl mvX4_252 (tw_o hp) rfl (t_refuse hp 5) (Nat.le_of_ble_eq_true rfl) rfl rfl (Nat.le_of_ble_eq_true rfl) (Nat.zero_le _) (Nat.zero_le _) ?_
      refine e_ireturn dX4_cards_27 rfl rfl (Nat.zero_le _) (Nat.zero_le _) ?_
      exact ⟨_, rfl, Or.inl ⟨Or.inr (by rw [hT0]; exact Int32.not_le.mp h19), rfl, rfl⟩⟩

