/-! ===== the twin: errata (2) ===== -/
theorem E_mem {cc : ByteArray} {X : Cx} {Qf : Qfun} {Qx : Qxun} {kc ks pc : Nat} {ls : List (Option Value)} {st : List Value} {M M' : List ACell} (h : M' = M) (k : E cc X Qf Qx kc ks pc ls st M') : E cc X Qf Qx kc ks pc ls st M := h ▸ k
set_option maxHeartbeats 4000000 in
set_option maxRecDepth 100000 in
/-- WheelTablesModel.corrected -/
theorem t_corr1 {pre post : List ACell} {τ0 : Tw} (hp : pre.length = 56) {T0 : Nat → Int64} {xs : Nat → Nat} {n k : Nat} {b : Int32} (hn : n ≤ 20) (hk1 : 1 ≤ k) (hkn : k < n) (hV : ∀ q, q < n → VO q (corL (xs q)) (τ0.2.2.2 72) (τ0.2.2.1 73)) {i : Nat} (hi : i < n) (w : Nat → Int64) : Ct yX4_corrected (ws_ yX4_corrected cX4_corrected 12 (some .boolean)) 3 0 0 [.ref 56, .int (nI n), .int (nI k), .int b, .int (nI i), .int (nI i)] (TW pre (tB (tB τ0 70 T0) 71 w) post) (fun v0 N => (spOne n k b T0 xs i = none ∧ v0 = some (.int 0) ∧ ∃ w, N = TW pre (tB (tB τ0 70 T0) 71 w) post) ∨ ∃ m, spOne n k b T0 xs i = some m ∧ v0 = some (.int 1) ∧ ∃ w T, N = TW pre (rgS (tB (tB τ0 70 T) 71 w) i ((corL (xs i)).2 m) i ((corL (xs i)).2 m)) post) noX := by
  refine Ct.of (ini := false) (ls := [some (.ref 56), some (.int (nI n)), some (.int (nI k)), some (.int b), some (.int (nI i)), some (.int (nI i)), none, none, none, none, none, none]) (by decide) (Nat.le_of_ble_eq_true rfl) (fun h => by cases h) rfl ?_
  refine e_aload_n dX4_corrected_0 0 rfl rfl rfl ?_
  refine e_iload_n dX4_corrected_1 1 rfl rfl ?_
  refine e_iload_n dX4_corrected_2 2 rfl rfl ?_
  refine e_iload_n dX4_corrected_3 3 rfl rfl ?_
  refine e_iload dX4_corrected_4 rfl ?_
  refine e_iload dX4_corrected_6 rfl ?_
  refine e_callVQ (As := [.int (nI n), .int (nI k), .int b, .int (nI i), .int (nI i)]) (rest := []) dX4_corrected_8 rfl mvX4_502 (tw_o hp) rfl (t_elsewhere (T := T0) hp hn hk1 hkn hi hi w) (Nat.le_of_ble_eq_true rfl) rfl rfl (Nat.le_of_ble_eq_true rfl) (Nat.zero_le _) (Nat.zero_le _) (fun v0 M0 h0 _ => ?_)
  obtain ⟨w2, rfl, rfl⟩ := h0
  refine e_if_ne 16 dX4_corrected_11 (by decide) (fun h11 => ?_) (fun h11 => ?_)
  · refine e_aload_n dX4_corrected_16 0 rfl rfl rfl ?_
    refine e_getf (v := .ref 95) dX4_corrected_17 rfl fX4_146 (tw_o hp) rfl ?_
    refine e_iload dX4_corrected_20 rfl ?_
    refine e_lald (f := T0) (j := i) dX4_corrected_22 (tw_a70 hp) rfl (by omega) (by decide) ?_
    refine e_lstore dX4_corrected_23 (ls_s (ls_s (ls_s (ls_s (ls_s (ls_1 rfl)))))) (ln_s (ln_s (ln_s (ln_s (ln_s (ln_s (ln_s ln_0))))))) (Nat.le_of_ble_eq_true rfl) ?_
    refine e_aload_n dX4_corrected_25 0 rfl rfl rfl ?_
    refine e_getf (v := .ref 95) dX4_corrected_26 rfl fX4_146 (tw_o hp) rfl ?_
    refine e_iload dX4_corrected_29 rfl ?_
    refine e_lald (f := T0) (j := i) dX4_corrected_31 (tw_a70 hp) rfl (by omega) (by decide) ?_
    refine e_lstore dX4_corrected_32 (ls_s (ls_s (ls_s (ls_s (ls_s (ls_s (ls_s (ls_1 rfl)))))))) (ln_s (ln_s (ln_s (ln_s (ln_s (ln_s (ln_s (ln_s (ln_s ln_0))))))))) (Nat.le_of_ble_eq_true rfl) ?_
    refine e_iconst 0 dX4_corrected_34 rfl ?_
    refine e_istore dX4_corrected_35 (ls_s (ls_s (ls_s (ls_s (ls_s (ls_s (ls_s (ls_s (ls_s (ls_1 rfl)))))))))) (Nat.le_of_ble_eq_true rfl) ?_
    refine E_mem (show TW pre (tB (tB τ0 70 (vp_updL T0 i (T0 i))) 71 w2) post = _ by rw [updL_id]) ?_
    have hel : elN n k b T0 i i = true := bI_t h11
    refine t_cor1 (τ0 := τ0) (T0 := T0) hp hn hk1 hkn hV hi (rgM xs i + 1) 0 (T0 i) w2 (by omega) (by omega) (fun y hy => absurd hy (by omega)) (fun hz w => ?_) (fun x w T h1 h2 h3 => ?_)
    · refine Or.inl ⟨?_, rfl, w, rfl⟩
      unfold spOne
      rw [if_pos hel]
      exact fstN_none (fun y _ hy => hz y (by omega))
    · refine Or.inr ⟨x, ?_, rfl, w, T, rfl⟩
      unfold spOne
      rw [if_pos hel]
      exact fstN_some h2 (Nat.zero_le _) (by omega) (fun y _ hy => h3 y hy)
  · refine e_iconst 0 dX4_corrected_14 rfl ?_
    refine e_ireturn dX4_corrected_15 rfl rfl (Nat.zero_le _) (Nat.zero_le _) ?_
    refine Or.inl ⟨?_, rfl, w2, rfl⟩
    unfold spOne
    rw [if_neg (by rw [bI_f h11]; decide)]

set_option maxHeartbeats 4000000 in
set_option maxRecDepth 100000 in
/-- WheelTablesModel.corrected -/
theorem t_corr2 {pre post : List ACell} {τ0 : Tw} (hp : pre.length = 56) {T0 : Nat → Int64} {xs : Nat → Nat} {n k : Nat} {b : Int32} (hn : n ≤ 20) (hk1 : 1 ≤ k) (hkn : k < n) (hV : ∀ q, q < n → VO q (corL (xs q)) (τ0.2.2.2 72) (τ0.2.2.1 73)) {i j : Nat} (hi : i < n) (hj : j < n) (hij : i ≠ j) (w : Nat → Int64) : Ct yX4_corrected (ws_ yX4_corrected cX4_corrected 12 (some .boolean)) 3 0 0 [.ref 56, .int (nI n), .int (nI k), .int b, .int (nI i), .int (nI j)] (TW pre (tB (tB τ0 70 T0) 71 w) post) (fun v0 N => (spTwo n k b T0 xs i j = none ∧ v0 = some (.int 0) ∧ ∃ w, N = TW pre (tB (tB τ0 70 T0) 71 w) post) ∨ ∃ m, spTwo n k b T0 xs i j = some m ∧ v0 = some (.int 1) ∧ ∃ w T, N = TW pre (rgS (tB (tB τ0 70 T) 71 w) i ((corL (xs i)).2 (m / rgM xs j)) j ((corL (xs j)).2 (m % rgM xs j))) post) noX := by
  refine Ct.of (ini := false) (ls := [some (.ref 56), some (.int (nI n)), some (.int (nI k)), some (.int b), some (.int (nI i)), some (.int (nI j)), none, none, none, none, none, none]) (by decide) (Nat.le_of_ble_eq_true rfl) (fun h => by cases h) rfl ?_
  refine e_aload_n dX4_corrected_0 0 rfl rfl rfl ?_
  refine e_iload_n dX4_corrected_1 1 rfl rfl ?_
  refine e_iload_n dX4_corrected_2 2 rfl rfl ?_
  refine e_iload_n dX4_corrected_3 3 rfl rfl ?_
  refine e_iload dX4_corrected_4 rfl ?_
  refine e_iload dX4_corrected_6 rfl ?_
  refine e_callVQ (As := [.int (nI n), .int (nI k), .int b, .int (nI i), .int (nI j)]) (rest := []) dX4_corrected_8 rfl mvX4_502 (tw_o hp) rfl (t_elsewhere (T := T0) hp hn hk1 hkn hi hj w) (Nat.le_of_ble_eq_true rfl) rfl rfl (Nat.le_of_ble_eq_true rfl) (Nat.zero_le _) (Nat.zero_le _) (fun v0 M0 h0 _ => ?_)
  obtain ⟨w2, rfl, rfl⟩ := h0
  refine e_if_ne 16 dX4_corrected_11 (by decide) (fun h11 => ?_) (fun h11 => ?_)
  · refine e_aload_n dX4_corrected_16 0 rfl rfl rfl ?_
    refine e_getf (v := .ref 95) dX4_corrected_17 rfl fX4_146 (tw_o hp) rfl ?_
    refine e_iload dX4_corrected_20 rfl ?_
    refine e_lald (f := T0) (j := i) dX4_corrected_22 (tw_a70 hp) rfl (by omega) (by decide) ?_
    refine e_lstore dX4_corrected_23 (ls_s (ls_s (ls_s (ls_s (ls_s (ls_1 rfl)))))) (ln_s (ln_s (ln_s (ln_s (ln_s (ln_s (ln_s ln_0))))))) (Nat.le_of_ble_eq_true rfl) ?_
    refine e_aload_n dX4_corrected_25 0 rfl rfl rfl ?_
    refine e_getf (v := .ref 95) dX4_corrected_26 rfl fX4_146 (tw_o hp) rfl ?_
    refine e_iload dX4_corrected_29 rfl ?_
    refine e_lald (f := T0) (j := j) dX4_corrected_31 (tw_a70 hp) rfl (by omega) (by decide) ?_
    refine e_lstore dX4_corrected_32 (ls_s (ls_s (ls_s (ls_s (ls_s (ls_s (ls_s (ls_1 rfl)))))))) (ln_s (ln_s (ln_s (ln_s (ln_s (ln_s (ln_s (ln_s (ln_s ln_0))))))))) (Nat.le_of_ble_eq_true rfl) ?_
    refine e_iconst 0 dX4_corrected_34 rfl ?_
    refine e_istore dX4_corrected_35 (ls_s (ls_s (ls_s (ls_s (ls_s (ls_s (ls_s (ls_s (ls_s (ls_1 rfl)))))))))) (Nat.le_of_ble_eq_true rfl) ?_
    refine E_mem (show TW pre (tB (tB τ0 70 (vp_updL T0 i (T0 i))) 71 w2) post = _ by rw [updL_id]) ?_
    have hel : elN n k b T0 i j = true := bI_t h11
    refine t_cor2 (τ0 := τ0) (T0 := T0) hp hn hk1 hkn hV hi hj hij (rgM xs i + 1) 0 (T0 i) w2 (by omega) (by omega) (fun y hy => absurd hy (by omega)) (fun hz w => ?_) (fun x y w T h1 h2 h3 h4 => ?_)
    · refine Or.inl ⟨?_, rfl, w, rfl⟩
      unfold spTwo
      rw [if_pos hel]
      exact fstN_none (fun y _ hy => hz y (by omega))
    · have hd := dvm (t := x) h2
      refine Or.inr ⟨x * rgM xs j + y, ?_, rfl, w, T, by rw [hd.1, hd.2]⟩
      unfold spTwo
      rw [if_pos hel]
      refine fstN_some h3 (Nat.zero_le _) ?_ (fun y _ hy => h4 y hy)
      have := Nat.mul_le_mul_right (rgM xs j) (show x + 1 ≤ rgM xs i by omega)
      rw [Nat.succ_mul] at this
      omega
  · refine e_iconst 0 dX4_corrected_14 rfl ?_
    refine e_ireturn dX4_corrected_15 rfl rfl (Nat.zero_le _) (Nat.zero_le _) ?_
    refine Or.inl ⟨?_, rfl, w2, rfl⟩
    unfold spTwo
    rw [if_neg (by rw [bI_f h11]; decide)]

