/-! ===== the twin: finer tables ===== -/
set_option maxHeartbeats 4000000 in
set_option maxRecDepth 100000 in
/-- a loop of atPart -/
theorem t_at1 {pre post : List ACell} {τ : Tw} (hp : pre.length = 56) {k m i : Nat} (hk : k ≤ 4) (hm1 : 2 ≤ m) (hm : m ≤ 20) (hi : i ≤ 60) {Q : Qfun} : ∀ (fuel : Nat) (n : Nat), n ≤ k → k < n + fuel → E cX4_atPart (RX4, (some .long), 13, 0, (0, 0), false, []) Q noX 0 0 37 [some (.ref 56), some (.int (nI k)), some (.int (nI m)), some (.int (nI i)), some (.long 0), none, some (.long 1), none, some (.long (unL m k)), none, none, none, none] [] (TW pre τ post) →
    E cX4_atPart (RX4, (some .long), 13, 0, (0, 0), false, []) Q noX 0 0 12 [some (.ref 56), some (.int (nI k)), some (.int (nI m)), some (.int (nI i)), some (.long 0), none, some (.long 1), none, some (.long (unL m n)), none, some (.int (nI n)), none, none] [] (TW pre τ post) := by
  intro fuel
  induction fuel with
  | zero => intro n hn hf hE; exact absurd hf (by omega)
  | succ fuel ih =>
    intro n hn hf hE
    refine e_iload dX4_atPart_12 rfl ?_
    refine e_iload_n dX4_atPart_14 1 rfl rfl ?_
    refine e_icmp_geN n k 37 (by omega) (by omega) dX4_atPart_15 (by decide) (fun h15 => ?_) (fun h15 => ?_)
    · refine e_forget (i := 10) (ln_s (ln_s (ln_s (ln_s (ln_s (ln_s (ln_s (ln_s (ln_s (ln_s ln_0)))))))))) ?_
      have e1 : n = k := by omega
      subst e1
      exact hE
    · refine e_lload dX4_atPart_18 rfl ?_
      refine e_iload_n dX4_atPart_20 2 rfl rfl ?_
      refine e_i2l dX4_atPart_21 ?_
      refine e_iload dX4_atPart_22 rfl ?_
      refine e_iconst 1 dX4_atPart_24 rfl ?_
      refine e_iaddN n 1 dX4_atPart_25 ?_
      refine e_i2l dX4_atPart_26 ?_
      refine e_lmul dX4_atPart_27 ?_
      refine e_lmul dX4_atPart_28 ?_
      refine e_lstore dX4_atPart_29 (ls_s (ls_s (ls_s (ls_s (ls_s (ls_s (ls_s (ls_1 rfl)))))))) (ln_s (ln_s (ln_s (ln_s (ln_s (ln_s (ln_s (ln_s (ln_s ln_0))))))))) (Nat.le_of_ble_eq_true rfl) ?_
      refine e_incN n (n + 1) (inc1 _) dX4_atPart_31 rfl (ls_s (ls_s (ls_s (ls_s (ls_s (ls_s (ls_s (ls_s (ls_s (ls_1 rfl)))))))))) (Nat.le_of_ble_eq_true rfl) ?_
      refine e_goto 12 dX4_atPart_34 (by decide) ?_
      exact ih (n + 1) (by omega) (by omega) hE

set_option maxHeartbeats 4000000 in
set_option maxRecDepth 100000 in
/-- a loop of atPart -/
theorem t_at2 {pre post : List ACell} {τ : Tw} (hp : pre.length = 56) {k m i : Nat} (hk : k ≤ 4) (hm1 : 2 ≤ m) (hm : m ≤ 20) (hi : i ≤ 60) {Q : Qfun} : ∀ (fuel : Nat) (n : Nat) (s : Int64) (p : Int64) (l : Int64) (u : Int64), n ≤ k + 1 → k + 1 < n + fuel → s = (atP (τ.2.2.2 96) k m i n).1 → p = (atP (τ.2.2.2 96) k m i n).2.1 → l = (atP (τ.2.2.2 96) k m i n).2.2 → Q (some (.long (atN (τ.2.2.2 96) k m i))) (TW pre τ post) →
    E cX4_atPart (RX4, (some .long), 13, 0, (0, 0), false, []) Q noX 0 0 44 [some (.ref 56), some (.int (nI k)), some (.int (nI m)), some (.int (nI i)), some (.long s), none, some (.long p), none, some (.long u), none, some (.long l), none, some (.int (nI n))] [] (TW pre τ post) := by
  intro fuel
  induction fuel with
  | zero => intro n s p l u hn hf hs hpp hl hQ; exact absurd hf (by omega)
  | succ fuel ih =>
    intro n s p l u hn hf hs hpp hl hQ
    refine e_iload dX4_atPart_44 rfl ?_
    refine e_iload_n dX4_atPart_46 1 rfl rfl ?_
    refine e_icmp_gtN n k 112 (by omega) (by omega) dX4_atPart_47 (by decide) (fun h47 => ?_) (fun h47 => ?_)
    · refine e_lload dX4_atPart_112 rfl ?_
      refine e_lreturn dX4_atPart_114 rfl (Nat.zero_le _) (Nat.zero_le _) ?_
      have e1 : n = k + 1 := by omega
      subst e1
      rw [hs]; exact hQ
    · refine e_lload dX4_atPart_50 rfl ?_
      refine e_aload_n dX4_atPart_52 0 rfl rfl rfl ?_
      refine e_getf (v := .ref 114) dX4_atPart_53 rfl fX4_203 (tw_o hp) rfl ?_
      refine e_iload dX4_atPart_56 rfl ?_
      refine e_lald (f := τ.2.2.2 96) (j := n) dX4_atPart_58 (tw_a96 hp) rfl (by omega) (by decide) ?_
      refine e_lload dX4_atPart_59 rfl ?_
      refine e_lmul dX4_atPart_61 ?_
      refine e_lload dX4_atPart_62 rfl ?_
      refine e_lmul dX4_atPart_64 ?_
      refine e_ladd dX4_atPart_65 ?_
      refine e_lstore dX4_atPart_66 (ls_s (ls_s (ls_s (ls_1 rfl)))) (ln_s (ln_s (ln_s (ln_s (ln_s ln_0))))) (Nat.le_of_ble_eq_true rfl) ?_
      refine e_lload dX4_atPart_68 rfl ?_
      refine e_iload_n dX4_atPart_70 3 rfl rfl ?_
      refine e_i2l dX4_atPart_71 ?_
      refine e_iload dX4_atPart_72 rfl ?_
      refine e_i2l dX4_atPart_74 ?_
      refine e_iload_n dX4_atPart_75 2 rfl rfl ?_
      refine e_i2l dX4_atPart_76 ?_
      refine e_lmul dX4_atPart_77 ?_
      refine e_lsub dX4_atPart_78 ?_
      refine e_lmul dX4_atPart_79 ?_
      refine e_lstore dX4_atPart_80 (ls_s (ls_s (ls_s (ls_s (ls_s (ls_1 rfl)))))) (ln_s (ln_s (ln_s (ln_s (ln_s (ln_s (ln_s ln_0))))))) (Nat.le_of_ble_eq_true rfl) ?_
      refine e_iload dX4_atPart_82 rfl ?_
      refine e_iload_n dX4_atPart_84 1 rfl rfl ?_
      refine e_icmp_geN n k 102 (by omega) (by omega) dX4_atPart_85 (by decide) (fun h85 => ?_) (fun h85 => ?_)
      · refine e_lload dX4_atPart_102 rfl ?_
        refine e_lstore dX4_atPart_104 (ls_s (ls_s (ls_s (ls_s (ls_s (ls_s (ls_s (ls_s (ls_s (ls_1 rfl)))))))))) (ln_s (ln_s (ln_s (ln_s (ln_s (ln_s (ln_s (ln_s (ln_s (ln_s (ln_s ln_0))))))))))) (Nat.le_of_ble_eq_true rfl) ?_
        refine e_incN n (n + 1) (inc1 _) dX4_atPart_106 rfl (ls_s (ls_s (ls_s (ls_s (ls_s (ls_s (ls_s (ls_s (ls_s (ls_s (ls_s (ls_1 rfl)))))))))))) (Nat.le_of_ble_eq_true rfl) ?_
        refine e_goto 44 dX4_atPart_109 (by decide) ?_
        exact ih (n + 1) _ _ _ _ (by omega) (by omega) (by rw [atP, ← hs, ← hpp, ← hl]) (by rw [atP, ← hpp]) (by rw [atP, ← hl]; exact (if_neg (by omega)).symm) hQ
      · have hdz := mn_ne (n := n) hm1 hm (by omega)
        refine e_lload dX4_atPart_88 rfl ?_
        refine e_iload_n dX4_atPart_90 2 rfl rfl ?_
        refine e_i2l dX4_atPart_91 ?_
        refine e_iload dX4_atPart_92 rfl ?_
        refine e_iconst 1 dX4_atPart_94 rfl ?_
        refine e_iaddN n 1 dX4_atPart_95 ?_
        refine e_i2l dX4_atPart_96 ?_
        refine e_lmul dX4_atPart_97 ?_
        refine e_ldiv dX4_atPart_98 (by assumption) ?_
        refine e_goto 104 dX4_atPart_99 (by decide) ?_
        refine e_lstore dX4_atPart_104 (ls_s (ls_s (ls_s (ls_s (ls_s (ls_s (ls_s (ls_s (ls_s (ls_1 rfl)))))))))) (ln_s (ln_s (ln_s (ln_s (ln_s (ln_s (ln_s (ln_s (ln_s (ln_s (ln_s ln_0))))))))))) (Nat.le_of_ble_eq_true rfl) ?_
        refine e_incN n (n + 1) (inc1 _) dX4_atPart_106 rfl (ls_s (ls_s (ls_s (ls_s (ls_s (ls_s (ls_s (ls_s (ls_s (ls_s (ls_s (ls_1 rfl)))))))))))) (Nat.le_of_ble_eq_true rfl) ?_
        refine e_goto 44 dX4_atPart_109 (by decide) ?_
        exact ih (n + 1) _ _ _ _ (by omega) (by omega) (by rw [atP, ← hs, ← hpp, ← hl]) (by rw [atP, ← hpp]) (by rw [atP, ← hl]; exact (if_pos (by omega)).symm) hQ

set_option maxHeartbeats 4000000 in
set_option maxRecDepth 100000 in
/-- WheelTablesModel.atPart -/
theorem t_atPart {pre post : List ACell} {τ : Tw} (hp : pre.length = 56) {k m i : Nat} (hk : k ≤ 4) (hm1 : 2 ≤ m) (hm : m ≤ 20) (hi : i ≤ 60) : Ct yX4_atPart (ws_ yX4_atPart cX4_atPart 13 (some .long)) 0 0 0 [.ref 56, .int (nI k), .int (nI m), .int (nI i)] (TW pre τ post) (Q1 (some (.long (atN (τ.2.2.2 96) k m i))) (TW pre τ post)) noX := by
  refine Ct.of (ini := false) (ls := [some (.ref 56), some (.int (nI k)), some (.int (nI m)), some (.int (nI i)), none, none, none, none, none, none, none, none, none]) (by decide) (Nat.le_of_ble_eq_true rfl) (fun h => by cases h) rfl ?_
  refine e_lconst 0 dX4_atPart_0 rfl ?_
  refine e_lstore dX4_atPart_1 (ls_s (ls_s (ls_s (ls_1 rfl)))) (ln_s (ln_s (ln_s (ln_s (ln_s ln_0))))) (Nat.le_of_ble_eq_true rfl) ?_
  refine e_lconst 1 dX4_atPart_3 rfl ?_
  refine e_lstore dX4_atPart_4 (ls_s (ls_s (ls_s (ls_s (ls_s (ls_1 rfl)))))) (ln_s (ln_s (ln_s (ln_s (ln_s (ln_s (ln_s ln_0))))))) (Nat.le_of_ble_eq_true rfl) ?_
  refine e_lconst 1 dX4_atPart_6 rfl ?_
  refine e_lstore dX4_atPart_7 (ls_s (ls_s (ls_s (ls_s (ls_s (ls_s (ls_s (ls_1 rfl)))))))) (ln_s (ln_s (ln_s (ln_s (ln_s (ln_s (ln_s (ln_s (ln_s ln_0))))))))) (Nat.le_of_ble_eq_true rfl) ?_
  refine e_iconst 0 dX4_atPart_9 rfl ?_
  refine e_istore dX4_atPart_10 (ls_s (ls_s (ls_s (ls_s (ls_s (ls_s (ls_s (ls_s (ls_s (ls_1 rfl)))))))))) (Nat.le_of_ble_eq_true rfl) ?_
  refine t_at1 hp hk hm1 hm hi (k + 1) 0 (by omega) (by omega) ?_
  refine e_lload dX4_atPart_37 rfl ?_
  refine e_lstore dX4_atPart_39 (ls_s (ls_s (ls_s (ls_s (ls_s (ls_s (ls_s (ls_s (ls_s (ls_1 rfl)))))))))) (ln_s (ln_s (ln_s (ln_s (ln_s (ln_s (ln_s (ln_s (ln_s (ln_s (ln_s ln_0))))))))))) (Nat.le_of_ble_eq_true rfl) ?_
  refine e_iconst 0 dX4_atPart_41 rfl ?_
  refine e_istore dX4_atPart_42 (ls_s (ls_s (ls_s (ls_s (ls_s (ls_s (ls_s (ls_s (ls_s (ls_s (ls_s (ls_1 rfl)))))))))))) (Nat.le_of_ble_eq_true rfl) ?_
  exact t_at2 hp hk hm1 hm hi (k + 2) 0 0 1 (unL m k) (unL m k) (by omega) (by omega) rfl rfl rfl ⟨rfl, rfl⟩

