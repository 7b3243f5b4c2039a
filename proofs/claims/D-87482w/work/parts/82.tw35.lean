/-! ===== the twin: finer tables (3) ===== -/
set_option maxHeartbeats 4000000 in
set_option maxRecDepth 100000 in
/-- a loop of isEnough -/
theorem t_en3 {pre post : List ACell} {τ0 : Tw} (hp : pre.length = 56) {k m r : Nat} {u g : Int64} {d : Int32} (hk : k ≤ 4) (hk1 : 1 ≤ k) (hm1 : 2 ≤ m) (hm : m ≤ 20) (hr : r ≤ 60) (hu : ¬ u = 0) (hu2 : ¬ 2 * u = 0) (hg2 : ¬ 2 * g = 0) {v : Nat → Int64} {Q : Qfun} : ∀ (fuel : Nat) (t : Nat) (w : Nat → Int64), t ≤ r → r < t + fuel → w = hfN k v t → allB (enP (τ0.2.2.2 96) k m u g v) t = true → (∀ w, Q (some (.int (bI (allB (enP (τ0.2.2.2 96) k m u g v) r)))) (TW pre (tB τ0 26 w) post)) →
    E cX4_isEnough (RX4, (some .boolean), 12, 2, (0, 0), false, []) Q noX 0 0 110 [some (.ref 56), some (.int (nI k)), some (.int (nI m)), some (.int (nI r)), some (.long u), none, some (.int d), some (.long g), none, some (.int (nI t)), none, none] [] (TW pre (tB τ0 26 w) post) := by
  intro fuel
  induction fuel with
  | zero => intro t w ht hf hw hb hQ; exact absurd hf (by omega)
  | succ fuel ih =>
    intro t w ht hf hw hb hQ
    refine e_iload dX4_isEnough_110 rfl ?_
    refine e_iload_n dX4_isEnough_112 3 rfl rfl ?_
    refine e_icmp_geN t r 220 (by omega) (by omega) dX4_isEnough_113 (by decide) (fun h113 => ?_) (fun h113 => ?_)
    · refine e_iconst 1 dX4_isEnough_220 rfl ?_
      refine e_ireturn dX4_isEnough_221 rfl rfl (Nat.zero_le _) (Nat.zero_le _) ?_
      have e1 : t = r := by omega
      subst e1
      have e2 := hQ w
      rw [hb] at e2
      exact e2
    · refine e_aload_n dX4_isEnough_116 0 rfl rfl rfl ?_
      refine e_getf (v := .ref 72) dX4_isEnough_117 rfl fX4_64 (tw_o hp) rfl ?_
      refine e_iconst 0 dX4_isEnough_120 rfl ?_
      refine e_lald (f := w) (j := 0) dX4_isEnough_121 (tw_a26 hp) rfl (by omega) (by decide) ?_
      refine e_lload dX4_isEnough_122 rfl ?_
      refine e_callS1 (As := [.long (w 0), .long g]) (rest := []) dX4_isEnough_124 rfl msX4_360 (t_nearest (w 0) g hg2) (Nat.le_of_ble_eq_true rfl) rfl rfl (Nat.le_of_ble_eq_true rfl) (Nat.zero_le _) (Nat.zero_le _) ?_
      refine e_aload_n dX4_isEnough_127 0 rfl rfl rfl ?_
      refine e_iload_n dX4_isEnough_128 1 rfl rfl ?_
      refine e_iload_n dX4_isEnough_129 2 rfl rfl ?_
      refine e_iload dX4_isEnough_130 rfl ?_
      refine e_callV1 (As := [.int (nI k), .int (nI m), .int (nI t)]) (rest := [.long (nrL (w 0) g)]) dX4_isEnough_132 rfl mvX4_356 (tw_o hp) rfl (t_atPart hp hk hm1 hm (show t ≤ 60 by omega)) (Nat.le_of_ble_eq_true rfl) rfl rfl (Nat.le_of_ble_eq_true rfl) (Nat.zero_le _) (Nat.zero_le _) ?_
      refine e_lload dX4_isEnough_135 rfl ?_
      refine e_callS1 (As := [.long (atN (τ0.2.2.2 96) k m t), .long u]) (rest := [.long (nrL (w 0) g)]) dX4_isEnough_137 rfl msX4_360 (t_nearest (atN (τ0.2.2.2 96) k m t) u hu2) (Nat.le_of_ble_eq_true rfl) rfl rfl (Nat.le_of_ble_eq_true rfl) (Nat.zero_le _) (Nat.zero_le _) ?_
      refine e_lcmp_eq 146 dX4_isEnough_140 dX4_isEnough_141 (by decide) (fun h140 => ?_) (fun h140 => ?_)
      · refine e_iconst 1 dX4_isEnough_146 rfl ?_
        refine e_istore dX4_isEnough_147 (ls_s (ls_s (ls_s (ls_s (ls_s (ls_s (ls_s (ls_s (ls_s (ls_1 rfl)))))))))) (Nat.le_of_ble_eq_true rfl) ?_
        refine t_enO (d := d) (v := hfN k v t) hp hk hk1 hm1 hm hr hu hu2 hg2 (t := t) (by omega) (k + 3) 1 _ (by omega) (by omega) (by rw [← hw]; funext q; unfold adQ; rw [if_neg (by omega)]) ?_
        refine e_iconst 2 dX4_isEnough_180 rfl ?_
        refine e_istore dX4_isEnough_181 (ls_s (ls_s (ls_s (ls_s (ls_s (ls_s (ls_s (ls_s (ls_s (ls_1 rfl)))))))))) (Nat.le_of_ble_eq_true rfl) ?_
        refine t_enE (d := d) (v := adO k (hfN k v t)) hp hk hk1 hm1 hm hr hu hu2 hg2 (t := t) (by omega) (k + 3) 2 _ (by omega) (by omega) (by funext q; unfold adQ; rw [if_neg (by omega)]) ?_
        refine e_incN t (t + 1) (inc1 _) dX4_isEnough_214 rfl (ls_s (ls_s (ls_s (ls_s (ls_s (ls_s (ls_s (ls_s (ls_1 rfl))))))))) (Nat.le_of_ble_eq_true rfl) ?_
        refine e_goto 110 dX4_isEnough_217 (by decide) ?_
        exact ih (t + 1) _ (by omega) (by omega) rfl (by rw [allB, hb, Bool.true_and]; exact decide_eq_true (by rw [← hw]; exact h140)) hQ
      · refine e_iconst 0 dX4_isEnough_144 rfl ?_
        refine e_ireturn dX4_isEnough_145 rfl rfl (Nat.zero_le _) (Nat.zero_le _) ?_
        have e3 : allB (enP (τ0.2.2.2 96) k m u g v) r = false := allB_f (k := t + 1) (by omega) (by rw [allB, show (enP (τ0.2.2.2 96) k m u g v) t = false from decide_eq_false (by rw [← hw]; exact h140), Bool.and_false])
        have e2 := hQ w
        rw [e3] at e2
        exact e2

