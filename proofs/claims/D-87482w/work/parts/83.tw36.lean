/-! ===== the twin: finer tables (4) ===== -/
theorem tn_ne {d : Nat} (h : d ≤ 6) : ¬ 2 * tnL d = 0 := by
  rcases (show d = 0 ∨ d = 1 ∨ d = 2 ∨ d = 3 ∨ d = 4 ∨ d = 5 ∨ d = 6 by omega) with rfl | rfl | rfl | rfl | rfl | rfl | rfl <;> decide
set_option maxHeartbeats 4000000 in
set_option maxRecDepth 100000 in
/-- WheelTablesModel.isEnough -/
theorem t_isEnough {pre post : List ACell} {τ0 : Tw} (hp : pre.length = 56) {k m r : Nat} {u : Int64} {d : Nat} (hk : k ≤ 4) (hk1 : 1 ≤ k) (hm1 : 2 ≤ m) (hm : m ≤ 20) (hr : r ≤ 60) (hu : ¬ u = 0) (hu2 : ¬ 2 * u = 0) (hd : d ≤ 6) (w : Nat → Int64) : Ct yX4_isEnough (ws_ yX4_isEnough cX4_isEnough 12 (some .boolean)) 2 0 0 [.ref 56, .int (nI k), .int (nI m), .int (nI r), .long u, .int (nI d)] (TW pre (tB τ0 26 w) post) (fun v0 N => ∃ w2, N = TW pre (tB τ0 26 w2) post ∧ v0 = some (.int (bI (enN (τ0.2.2.2 96) k m r u (tnL d))))) noX := by
  refine Ct.of (ini := false) (ls := [some (.ref 56), some (.int (nI k)), some (.int (nI m)), some (.int (nI r)), some (.long u), none, some (.int (nI d)), none, none, none, none, none]) (by decide) (Nat.le_of_ble_eq_true rfl) (fun h => by cases h) rfl ?_
  refine e_iload dX4_isEnough_0 rfl ?_
  refine e_callS1 (As := [.int (nI d)]) (rest := []) dX4_isEnough_2 rfl msX4_352 (t_tens (n := d) (by omega)) (Nat.le_of_ble_eq_true rfl) rfl rfl (Nat.le_of_ble_eq_true rfl) (Nat.zero_le _) (Nat.zero_le _) ?_
  refine e_lstore dX4_isEnough_5 (ls_s (ls_s (ls_s (ls_s (ls_s (ls_s (ls_1 rfl))))))) (ln_s (ln_s (ln_s (ln_s (ln_s (ln_s (ln_s (ln_s ln_0)))))))) (Nat.le_of_ble_eq_true rfl) ?_
  refine e_iconst 0 dX4_isEnough_7 rfl ?_
  refine e_istore dX4_isEnough_8 (ls_s (ls_s (ls_s (ls_s (ls_s (ls_s (ls_s (ls_s (ls_1 rfl))))))))) (Nat.le_of_ble_eq_true rfl) ?_
  have hg2 := tn_ne hd
  refine t_en1 (d := nI d) (w0 := w) hp hk hk1 hm1 hm hr hu hu2 hg2 (k + 2) 0 w (by omega) (by omega) (by rw [rngL_0]) ?_
  refine e_aload_n dX4_isEnough_37 0 rfl rfl rfl ?_
  refine e_iload_n dX4_isEnough_38 1 rfl rfl ?_
  refine e_iconst 1 dX4_isEnough_39 rfl ?_
  refine e_iaddN k 1 dX4_isEnough_40 ?_
  refine e_callV0 (As := [.int (nI (k + 1))]) (rest := []) dX4_isEnough_41 rfl mvX4_278 (tw_o hp) rfl (t_back (v := (rngL w 0 (k + 1) (fun i => atN (τ0.2.2.2 96) k m i))) hp (n := k + 1) (by omega) (by omega)) (Nat.le_of_ble_eq_true rfl) rfl rfl (Nat.le_of_ble_eq_true rfl) (Nat.zero_le _) (Nat.zero_le _) ?_
  refine e_iconst 0 dX4_isEnough_44 rfl ?_
  refine e_istore dX4_isEnough_45 (ls_s (ls_s (ls_s (ls_s (ls_s (ls_s (ls_s (ls_s (ls_1 rfl))))))))) (Nat.le_of_ble_eq_true rfl) ?_
  refine t_en2 (d := nI d) (v := (bkN (k + 1) (rngL w 0 (k + 1) (fun i => atN (τ0.2.2.2 96) k m i)))) hp hk hk1 hm1 hm hr hu hu2 hg2 (k + 2) 0 _ (by omega) (by omega) (by rw [rngL_0]) ?_
  refine e_iconst 0 dX4_isEnough_107 rfl ?_
  refine e_istore dX4_isEnough_108 (ls_s (ls_s (ls_s (ls_s (ls_s (ls_s (ls_s (ls_s (ls_1 rfl))))))))) (Nat.le_of_ble_eq_true rfl) ?_
  refine t_en3 (d := nI d) (g := tnL d) (v := (rngL (bkN (k + 1) (rngL w 0 (k + 1) (fun i => atN (τ0.2.2.2 96) k m i))) 0 (k + 1) (fun q => fnV u (tnL d) ((bkN (k + 1) (rngL w 0 (k + 1) (fun i => atN (τ0.2.2.2 96) k m i))) q)))) hp hk hk1 hm1 hm hr hu hu2 hg2 (r + 1) 0 _ (by omega) (by omega) rfl rfl (fun w2 => ⟨w2, rfl, ?_⟩)
  have hv : ∀ q, q ≤ k → (rngL (bkN (k + 1) (rngL w 0 (k + 1) (fun i => atN (τ0.2.2.2 96) k m i))) 0 (k + 1) (fun q => fnV u (tnL d) ((bkN (k + 1) (rngL w 0 (k + 1) (fun i => atN (τ0.2.2.2 96) k m i))) q))) q = fnV u (tnL d) (bkN (k + 1) (fun i => atN (τ0.2.2.2 96) k m i) q) := fun q hq => by
    rw [show (rngL (bkN (k + 1) (rngL w 0 (k + 1) (fun i => atN (τ0.2.2.2 96) k m i))) 0 (k + 1) (fun q => fnV u (tnL d) ((bkN (k + 1) (rngL w 0 (k + 1) (fun i => atN (τ0.2.2.2 96) k m i))) q))) q = fnV u (tnL d) ((bkN (k + 1) (rngL w 0 (k + 1) (fun i => atN (τ0.2.2.2 96) k m i))) q) by unfold rngL; rw [if_pos ⟨by omega, by omega⟩, Nat.sub_zero]]
    rw [bkN_cg (w := (fun i => atN (τ0.2.2.2 96) k m i)) (fun z hz => by unfold rngL; rw [if_pos ⟨by omega, by omega⟩, Nat.sub_zero]) q (by omega)]
  have he : enP (τ0.2.2.2 96) k m u (tnL d) (rngL (bkN (k + 1) (rngL w 0 (k + 1) (fun i => atN (τ0.2.2.2 96) k m i))) 0 (k + 1) (fun q => fnV u (tnL d) ((bkN (k + 1) (rngL w 0 (k + 1) (fun i => atN (τ0.2.2.2 96) k m i))) q))) = enP (τ0.2.2.2 96) k m u (tnL d) (fun q => fnV u (tnL d) (bkN (k + 1) (fun i => atN (τ0.2.2.2 96) k m i) q)) := by
    funext t
    unfold enP
    rw [hfN_cg hv t 0 (Nat.zero_le _)]
  rw [he]
  rfl

