/-! ===== the component: the cards' tokens ===== -/
/-- a byte of the text; behind its end -1 -/
def atR (f : Nat → Int32) (n k : Nat) : Int32 := if k < n then f k &&& 255 else -1
theorem atR_in {f : Nat → Int32} {n k : Nat} (h : k < n) : atR f n k = lkN f n k := by unfold atR lkN; rw [if_pos h, if_pos h]
theorem atR_out {f : Nat → Int32} {n k : Nat} (h : ¬ k < n) : atR f n k = -1 ∧ lkN f n k = 0 := by unfold atR lkN; rw [if_neg h, if_neg h]; exact ⟨rfl, rfl⟩
theorem atR_lt (f : Nat → Int32) (n k : Nat) : isLt (atR f n k) ↔ isLt (lkN f n k) := by
  by_cases h : k < n
  · rw [atR_in h]
  · rw [(atR_out h).1, (atR_out h).2]; decide
theorem atR_dg (f : Nat → Int32) (n k : Nat) : isDg (atR f n k) ↔ isDg (lkN f n k) := by
  by_cases h : k < n
  · rw [atR_in h]
  · rw [(atR_out h).1, (atR_out h).2]; decide
theorem atR_m1 (f : Nat → Int32) (n k : Nat) : atR f n k = -1 ↔ n ≤ k := by
  by_cases h : k < n
  · unfold atR; rw [if_pos h]
    refine ⟨fun z => ?_, fun z => absurd h (by omega)⟩
    obtain ⟨j, hj, e2⟩ := pk_andE (f k) (m := 255) 8 (by decide)
    rw [show (255 : Int32) = nI 255 from rfl] at z
    have e3 : nI j = -1 := e2.symm.trans z
    exact absurd e3 (nIm1 (by omega))
  · exact ⟨fun _ => by omega, fun _ => (atR_out h).1⟩
/-- the same but for the token -/
def SyN (ξ ξ' : Xs) : Prop := (∀ k, k ∉ [103, 104, 105] → ξ'.1 k = ξ.1 k) ∧ ξ'.2.2 = ξ.2.2
theorem SyN.rf (ξ : Xs) : SyN ξ ξ := ⟨fun _ _ => rfl, rfl⟩
theorem SyN.I {ξ a : Xs} (h : SyN ξ a) {k : Nat} (v : Int32) (hk : k ∈ [103, 104, 105]) : SyN ξ (xI a k v) := ⟨fun j hj => (pk_un (fun e => hj (by rw [e]; exact hk))).trans (h.1 j hj), h.2⟩
theorem SyN.L {ξ a : Xs} (h : SyN ξ a) (k : Nat) (v : Int64) : SyN ξ (xL a k v) := ⟨h.1, h.2⟩
theorem SyN.tr {a b c : Xs} (h : SyN a b) (g : SyN b c) : SyN a c := ⟨fun k hk => (g.1 k hk).trans (h.1 k hk), g.2.trans h.2⟩
/-- the sorts of tokens in the component: end, bad, word, number, sign -/
def srT (s : Nat) : Nat := if s = 0 then 0 else if s = 1 then 2 else if s = 2 then 3 else if s = 3 then 4 else 1
/-- a token at hand -/
def TkX (t : Tok) (ξ : Xs) : Prop := ξ.1 103 = nI (srT t.1) ∧ ξ.1 104 = nI t.2.1 ∧ ξ.1 105 = nI t.2.2.1 ∧ (t.1 = 2 ∨ t.1 = 3 → ξ.2.1 106 = t.2.2.2)
set_option maxHeartbeats 4000000 in
set_option maxRecDepth 100000 in
/-- WheelTables$Reader.isDigit -/
theorem x_isDigit {M : List ACell} (v : Int32) : Ct yX2_isDigit (ws_ yX2_isDigit cX2_isDigit 1 (some .boolean)) 0 0 0 [.int v] M (QB (isDg v) M) noX := by
  refine Ct.of (ini := false) (ls := [some (.int v)]) (by decide) (Nat.le_of_ble_eq_true rfl) (fun h => by cases h) rfl ?_
  refine e_iload_n dX2_isDigit_0 0 rfl rfl ?_
  refine e_bipush 48 dX2_isDigit_1 rfl ?_
  refine e_icmp_lt 16 dX2_isDigit_3 (by decide) (fun h3 => ?_) (fun h3 => ?_)
  · refine e_iconst 0 dX2_isDigit_16 rfl ?_
    refine e_ireturn dX2_isDigit_17 rfl rfl (Nat.zero_le _) (Nat.zero_le _) ?_
    exact ⟨rfl, Or.inr ⟨fun z => i32_lt h3 z.1, rfl⟩⟩
  · refine e_iload_n dX2_isDigit_6 0 rfl rfl ?_
    refine e_bipush 57 dX2_isDigit_7 rfl ?_
    refine e_icmp_gt 16 dX2_isDigit_9 (by decide) (fun h9 => ?_) (fun h9 => ?_)
    · refine e_iconst 0 dX2_isDigit_16 rfl ?_
      refine e_ireturn dX2_isDigit_17 rfl rfl (Nat.zero_le _) (Nat.zero_le _) ?_
      exact ⟨rfl, Or.inr ⟨fun z => absurd z.2 (Int32.not_le.mpr h9), rfl⟩⟩
    · refine e_iconst 1 dX2_isDigit_12 rfl ?_
      refine e_goto 17 dX2_isDigit_13 (by decide) ?_
      refine e_ireturn dX2_isDigit_17 rfl rfl (Nat.zero_le _) (Nat.zero_le _) ?_
      exact ⟨rfl, Or.inl ⟨⟨i32_nlt h3, i32_nlt h9⟩, rfl⟩⟩

set_option maxHeartbeats 4000000 in
set_option maxRecDepth 100000 in
/-- WheelTables$Reader.isSmall -/
theorem x_isSmall {M : List ACell} (v : Int32) : Ct yX2_isSmall (ws_ yX2_isSmall cX2_isSmall 1 (some .boolean)) 0 0 0 [.int v] M (QB (isLt v) M) noX := by
  refine Ct.of (ini := false) (ls := [some (.int v)]) (by decide) (Nat.le_of_ble_eq_true rfl) (fun h => by cases h) rfl ?_
  refine e_iload_n dX2_isSmall_0 0 rfl rfl ?_
  refine e_bipush 97 dX2_isSmall_1 rfl ?_
  refine e_icmp_lt 16 dX2_isSmall_3 (by decide) (fun h3 => ?_) (fun h3 => ?_)
  · refine e_iconst 0 dX2_isSmall_16 rfl ?_
    refine e_ireturn dX2_isSmall_17 rfl rfl (Nat.zero_le _) (Nat.zero_le _) ?_
    exact ⟨rfl, Or.inr ⟨fun z => i32_lt h3 z.1, rfl⟩⟩
  · refine e_iload_n dX2_isSmall_6 0 rfl rfl ?_
    refine e_bipush 122 dX2_isSmall_7 rfl ?_
    refine e_icmp_gt 16 dX2_isSmall_9 (by decide) (fun h9 => ?_) (fun h9 => ?_)
    · refine e_iconst 0 dX2_isSmall_16 rfl ?_
      refine e_ireturn dX2_isSmall_17 rfl rfl (Nat.zero_le _) (Nat.zero_le _) ?_
      exact ⟨rfl, Or.inr ⟨fun z => absurd z.2 (Int32.not_le.mpr h9), rfl⟩⟩
    · refine e_iconst 1 dX2_isSmall_12 rfl ?_
      refine e_goto 17 dX2_isSmall_13 (by decide) ?_
      refine e_ireturn dX2_isSmall_17 rfl rfl (Nat.zero_le _) (Nat.zero_le _) ?_
      exact ⟨rfl, Or.inl ⟨⟨i32_nlt h3, i32_nlt h9⟩, rfl⟩⟩

set_option maxHeartbeats 4000000 in
set_option maxRecDepth 100000 in
/-- WheelTables$Reader.at -/
theorem x_atR {ξ : Xs} {mid dyn : List ACell} {f : Nat → Int32} {n : Nat} (hn : n ≤ 500) (h102 : ξ.1 102 = nI n) (hf : ξ.2.2.1 100 = f) {k : Nat} (hk : k ≤ 600) : Ct yX2_at (ws_ yX2_at cX2_at 2 (some .int)) 0 0 0 [.ref 4, .int (nI k)] (XM ξ mid dyn) (Q1 (some (.int (atR f n k))) (XM ξ mid dyn)) noX := by
  refine Ct.of (ini := false) (ls := [some (.ref 4), some (.int (nI k))]) (by decide) (Nat.le_of_ble_eq_true rfl) (fun h => by cases h) rfl ?_
  refine e_iload_n dX2_at_0 1 rfl rfl ?_
  refine e_aload_n dX2_at_1 0 rfl rfl rfl ?_
  refine e_getf (v := (.int (ξ.1 102))) dX2_at_2 rfl fX2_19 (xm_o4) rfl ?_
  refine e_top (congrArg Value.int h102) ?_
  refine e_icmp_geN k n 21 (by omega) (by omega) dX2_at_5 (by decide) (fun h5 => ?_) (fun h5 => ?_)
  · refine e_iconst (-1) dX2_at_21 rfl ?_
    refine e_ireturn dX2_at_22 rfl rfl (Nat.zero_le _) (Nat.zero_le _) ?_
    refine ⟨?_, rfl⟩
    unfold atR
    rw [if_neg (by omega)]
  · refine e_aload_n dX2_at_8 0 rfl rfl rfl ?_
    refine e_getf (v := (.ref 5)) dX2_at_9 rfl fX2_9 (xm_o4) rfl ?_
    refine e_iload_n dX2_at_12 1 rfl rfl ?_
    refine e_bald (f := ξ.2.2.1 100) (j := k) dX2_at_13 (xm_a100) rfl (by omega) (by decide) ?_
    refine e_top (congrArg Value.int (congrFun hf k)) ?_
    refine e_sipush 255 dX2_at_14 rfl ?_
    refine e_iand dX2_at_17 ?_
    refine e_goto 22 dX2_at_18 (by decide) ?_
    refine e_ireturn dX2_at_22 rfl rfl (Nat.zero_le _) (Nat.zero_le _) ?_
    refine ⟨?_, rfl⟩
    unfold atR
    rw [if_pos (by omega)]

