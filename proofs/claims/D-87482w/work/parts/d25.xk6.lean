/-! ===== the component: errata ===== -/
theorem lN_99 {v : Int64} (h1 : 0 ≤ v) (h2 : v ≤ 99999999) : ix v.toInt32 ≤ 99999999 ∧ v = lN (ix v.toInt32) := by
  rw [Int64.le_iff_toInt_le] at h1 h2
  rw [show (0 : Int64).toInt = 0 from rfl] at h1
  rw [show (99999999 : Int64).toInt = 99999999 from rfl] at h2
  have h3 : (v.toNatClampNeg : Int) = v.toInt := by
    show ((v.toInt.toNat : Nat) : Int) = v.toInt
    omega
  have h4 : v = lN v.toNatClampNeg := Int64.toInt_inj.mp (by rw [lN_toInt (by omega)]; omega)
  have h5 : ix v.toInt32 = v.toNatClampNeg := by
    rw [h4, lN_i32 (by omega), ix_nI (by omega), ← h4]
  rw [h5]
  exact ⟨by omega, h4⟩
/-- what was put right is told -/
theorem Rel.fnd {own : Nat → Nat} {ξ ξ1 : Xs} {dyn : List ACell} {τ ς : Tw} (h0 : Rel own ξ dyn τ) (hS : Sy sI sA sB ξ1 ξ) {m : Nat} (hm : m ≤ 2) {a v b u : Int32} (q1 : ς.1 = (b0 τ).1) (q2 : ∀ k, k ∉ [75, 76] → ς.2.2.1 k = τ.2.2.1 k) (q3 : ς.2.2.2 = τ.2.2.2)
    (ha : 0 < m → a = ς.2.2.1 75 0 ∧ v = ς.2.2.1 76 0 ∧ ¬ a = -1) (hb : 1 < m → b = ς.2.2.1 75 1 ∧ u = ς.2.2.1 76 1 ∧ ¬ b = -1) (ha0 : ¬ 0 < m → a = -1) (hb0 : ¬ 1 < m → b = -1) : Rel own (xI (fdX ξ1 a v b u) 8 0) dyn (cpF ς m) := by
  obtain ⟨hI, hA, hB, hW, hP, hR, hT, hE, hC, hV⟩ := h0.sq hS
  have e1 : ∀ k, k ∉ [0, 1, 74] → (cpF ς m).1 k = τ.1 k := fun k hk => by
    show upd ς.1 74 (nI m) k = _
    rw [pk_un (fun e => hk (by rw [e]; decide)), q1]
    show upd (upd τ.1 1 0) 0 0 k = _
    rw [pk_un (fun e => hk (by rw [e]; decide)), pk_un (fun e => hk (by rw [e]; decide))]
  have e2 : ∀ k, k ∉ [75, 76, 97, 98] → (cpF ς m).2.2.1 k = τ.2.2.1 k := fun k hk => by
    refine Eq.trans ?_ (q2 k (fun e => hk ?_))
    · exact (va_up_ne _ _ (fun e => hk (by rw [e]; decide))).trans (va_up_ne _ _ (fun e => hk (by rw [e]; decide)))
    · rcases List.mem_cons.mp e with e | e
      · rw [e]; decide
      · rw [List.mem_singleton.mp e]; decide
  have e3 : (cpF ς m).2.2.2 = τ.2.2.2 := q3
  have u1 : ∀ k, k ∉ [33, 34] → (xI (fdX ξ1 a v b u) 8 0).2.2.1 k = ξ1.2.2.1 k := fun k hk => (va_up_ne _ _ (fun e => hk (by rw [e]; decide))).trans (va_up_ne _ _ (fun e => hk (by rw [e]; decide)))
  have sA : ∀ (L : List Nat), (∀ k ∈ L, k ∉ [75, 76, 97, 98]) → ∀ k ∈ L, (cpF ς m).2.2.1 k = τ.2.2.1 k := fun L h k hk => e2 k (h k hk)
  have sI : ∀ (L : List Nat), (∀ k ∈ L, k ∉ [0, 1, 74]) → ∀ k ∈ L, (cpF ς m).1 k = τ.1 k := fun L h k hk => e1 k (h k hk)
  have kI : ∀ q ∈ rlI, q.1 = 8 ∧ q.2 = 0 ∨ ¬ q.1 = 8 ∧ q.2 ∉ [0, 1, 74] := by decide
  have kA : ∀ q ∈ rlA, q.1 ∉ [33, 34] ∧ q.2 ∉ [75, 76, 97, 98] := by decide
  refine ⟨fun q hq => ?_, fun q hq => ?_, fun q hq => ?_, ?_, ?_, ?_, ?_, ?_, ?_, ?_⟩
  · rcases kI q hq with ⟨z1, z2⟩ | ⟨z1, z2⟩
    · rw [z1, z2]
      show upd ξ1.1 8 0 8 = upd ς.1 74 (nI m) 0
      rw [pk_us, pk_un (by decide), q1]
      rfl
    · rw [e1 _ z2]
      exact (pk_un z1).trans (hI q hq)
  · rw [u1 _ (kA q hq).1, e2 _ (kA q hq).2]; exact hA q hq
  · rw [e3]; exact hB q hq
  · have := hW.cg (sI _ (by decide))
    unfold RW RW0 at this ⊢
    rw [u1 12 (by decide)]; exact this
  · have := hP.cg (sI _ (by decide)) (sA _ (by decide))
    unfold RP at this ⊢
    rw [u1 41 (by decide)]; exact this
  · refine ⟨m, hm, rfl, fun j hj => ?_, fun j h1 h2 => ?_⟩
    · rcases (show j = 0 ∨ j = 1 by omega) with rfl | rfl
      · obtain ⟨z1, z2, z3⟩ := ha (by omega)
        exact ⟨z1, z3, z2⟩
      · obtain ⟨z1, z2, z3⟩ := hb (by omega)
        exact ⟨z1, z3, z2⟩
    · rcases (show j = 0 ∨ j = 1 by omega) with rfl | rfl
      · exact ha0 (by omega)
      · exact hb0 (by omega)
  · exact RT.cg (τ := τ) hT (sA _ (by decide)) (by rw [e3])
  · exact RE.cg (τ := τ) hE (e1 5 (by decide)) (sA _ (by decide))
  · exact RC.cg (τ := τ) hC (e1 41 (by decide)) (sA _ (by decide)) (by rw [e3])
  · obtain ⟨hVT, hVJ, hVR, hVF, hVN, hV0⟩ := hV
    refine ⟨hVT.cg (sA _ (by decide)), hVJ.cg (e1 82 (by decide)) (sA _ (by decide)), ?_, hVF.cg (e1 29 (by decide)), hVN.cg (e2 51 (by decide)) (e2 52 (by decide)) (e2 53 (by decide)), fun h => (e1 62 (by decide)).trans (hV0 ((e1 60 (by decide)).symm.trans h))⟩
    obtain ⟨p, q, hp1, hp2, hq1, hq2, h6⟩ := hVR
    exact ⟨p, m, hp1, (e1 62 (by decide)).trans hp2, hm, rfl, by rw [e1 60 (by decide)]; exact h6⟩
set_option maxHeartbeats 4000000 in
set_option maxRecDepth 100000 in
/-- a loop of errata -/
theorem x_err1 {ξ : Xs} {mid dyn : List ACell} {τ : Tw} (hm : mid.length = 61) {y s nt r0 n k : Nat} {b : Int32} {g : Nat → Int64} (hn : n ≤ 20) (hnt : n ≤ nt) (hn60 : nt ≤ 60) (hs : s < 4) (hy : y < 4) (hTr : ξ.2.2.2.2.2.2 y = (some (117 + r0), nI s)) (hD : dyn[r0]? = some (rowC s nt g)) (hg : ∀ k, k < nt → g k = τ.2.2.2 4 (60 * y + k) ∧ fitS s (g k)) {Q : Qfun} : ∀ (fuel : Nat) (j : Nat), j ≤ n → n < j + fuel → allB (fun k => decide (0 ≤ τ.2.2.2 4 (60 * y + k) ∧ τ.2.2.2 4 (60 * y + k) ≤ 99999999)) j = true → (¬ spEight y n τ = true → Q (some (.int (-1))) (XM (xI ξ 8 5) mid dyn)) → (spEight y n τ = true → E cX0_errata (RX0, (some .int), 7, 5, (0, 0), false, []) Q noX 0 0 142 [some (.ref 0), some (.int (nI y)), some (.int (nI n)), some (.int (nI k)), some (.int b), some (.ref (52 + y)), none] [] (XM ξ mid dyn)) →
    E cX0_errata (RX0, (some .int), 7, 5, (0, 0), false, []) Q noX 0 0 98 [some (.ref 0), some (.int (nI y)), some (.int (nI n)), some (.int (nI k)), some (.int b), some (.ref (52 + y)), some (.int (nI j))] [] (XM ξ mid dyn) := by
  intro fuel
  induction fuel with
  | zero => intro j hj hf hb hR hE; exact absurd hf (by omega)
  | succ fuel ih =>
    intro j hj hf hb hR hE
    refine e_iload dX0_errata_98 rfl ?_
    refine e_iload_n dX0_errata_100 2 rfl rfl ?_
    refine e_icmp_geN j n 142 (by omega) (by omega) dX0_errata_101 (by decide) (fun h101 => ?_) (fun h101 => ?_)
    · refine e_forget (i := 6) (ln_s (ln_s (ln_s (ln_s (ln_s (ln_s ln_0)))))) ?_
      obtain rfl : j = n := by omega
      exact hE hb
    · refine e_aload dX0_errata_104 rfl rfl ?_
      refine e_iload dX0_errata_106 rfl ?_
      refine e_callV1 (As := [.int (nI j)]) (rest := []) dX0_errata_108 rfl mvX0_173 (xm_oT hy) rfl (z_get hm hy hs hn60 hTr hD (by omega) (hg j (by omega)).2) (Nat.le_of_ble_eq_true rfl) rfl rfl (Nat.le_of_ble_eq_true rfl) (Nat.zero_le _) (Nat.zero_le _) ?_
      refine e_top (congrArg Value.long (hg j (by omega)).1) ?_
      refine e_lconst 0 dX0_errata_111 rfl ?_
      refine e_lcmp_lt 130 dX0_errata_112 dX0_errata_113 (by decide) (fun h112 => ?_) (fun h112 => ?_)
      · refine e_aload_n dX0_errata_130 0 rfl rfl rfl ?_
        refine e_iconst 5 dX0_errata_131 rfl ?_
        refine e_callV1 (As := [.int 5]) (rest := []) dX0_errata_132 rfl mvX0_169 (xm_o0) rfl (x_none 5) (Nat.le_of_ble_eq_true rfl) rfl rfl (Nat.le_of_ble_eq_true rfl) (Nat.zero_le _) (Nat.zero_le _) ?_
        refine e_ireturn dX0_errata_135 rfl rfl (Nat.zero_le _) (Nat.zero_le _) ?_
        refine hR (fun z => ?_)
        have hz := of_decide_eq_true ((allB_iff.mp z) j (by omega))
        exact absurd hz.1 (Int64.not_le.mpr h112)
      · refine e_aload dX0_errata_116 rfl rfl ?_
        refine e_iload dX0_errata_118 rfl ?_
        refine e_callV1 (As := [.int (nI j)]) (rest := []) dX0_errata_120 rfl mvX0_173 (xm_oT hy) rfl (z_get hm hy hs hn60 hTr hD (by omega) (hg j (by omega)).2) (Nat.le_of_ble_eq_true rfl) rfl rfl (Nat.le_of_ble_eq_true rfl) (Nat.zero_le _) (Nat.zero_le _) ?_
        refine e_top (congrArg Value.long (hg j (by omega)).1) ?_
        refine e_ldc2 rfl q1003 dX0_errata_123 ?_
        refine e_lcmp_le 136 dX0_errata_126 dX0_errata_127 (by decide) (fun h126 => ?_) (fun h126 => ?_)
        · refine e_incN j (j + 1) (inc1 _) dX0_errata_136 rfl (ls_s (ls_s (ls_s (ls_s (ls_s (ls_1 rfl)))))) (Nat.le_of_ble_eq_true rfl) ?_
          refine e_goto 98 dX0_errata_139 (by decide) ?_
          exact ih (j + 1) (by omega) (by omega) (by rw [allB, hb, Bool.true_and]; exact decide_eq_true ⟨Int64.not_lt.mp h112, h126⟩) hR hE
        · refine e_aload_n dX0_errata_130 0 rfl rfl rfl ?_
          refine e_iconst 5 dX0_errata_131 rfl ?_
          refine e_callV1 (As := [.int 5]) (rest := []) dX0_errata_132 rfl mvX0_169 (xm_o0) rfl (x_none 5) (Nat.le_of_ble_eq_true rfl) rfl rfl (Nat.le_of_ble_eq_true rfl) (Nat.zero_le _) (Nat.zero_le _) ?_
          refine e_ireturn dX0_errata_135 rfl rfl (Nat.zero_le _) (Nat.zero_le _) ?_
          refine hR (fun z => ?_)
          have hz := of_decide_eq_true ((allB_iff.mp z) j (by omega))
          exact h126 hz.2

set_option maxHeartbeats 4000000 in
set_option maxRecDepth 100000 in
/-- a loop of errata -/
theorem x_err2 {ξ : Xs} {mid dyn : List ACell} {τ : Tw} (hm : mid.length = 61) {y s nt r0 n k : Nat} {b : Int32} {g : Nat → Int64} (hn : n ≤ 20) (hnt : n ≤ nt) (hn60 : nt ≤ 60) (hs : s < 4) (hy : y < 4) (hTr : ξ.2.2.2.2.2.2 y = (some (117 + r0), nI s)) (hD : dyn[r0]? = some (rowC s nt g)) (hg : ∀ k, k < nt → g k = τ.2.2.2 4 (60 * y + k) ∧ fitS s (g k)) {Q : Qfun} : ∀ (fuel : Nat) (j : Nat), j ≤ n → n < j + fuel → E cX0_errata (RX0, (some .int), 7, 5, (0, 0), false, []) Q noX 0 0 171 [some (.ref 0), some (.int (nI y)), some (.int (nI n)), some (.int (nI k)), some (.int b), some (.ref (52 + y)), none] [] (XM (xB ξ 30 (rngL (ξ.2.2.2.1 30) 0 n (fun q => τ.2.2.2 4 (60 * y + q)))) mid dyn) →
    E cX0_errata (RX0, (some .int), 7, 5, (0, 0), false, []) Q noX 0 0 145 [some (.ref 0), some (.int (nI y)), some (.int (nI n)), some (.int (nI k)), some (.int b), some (.ref (52 + y)), some (.int (nI j))] [] (XM (xB ξ 30 (rngL (ξ.2.2.2.1 30) 0 j (fun q => τ.2.2.2 4 (60 * y + q)))) mid dyn) := by
  intro fuel
  induction fuel with
  | zero => intro j hj hf hE; exact absurd hf (by omega)
  | succ fuel ih =>
    intro j hj hf hE
    refine e_iload dX0_errata_145 rfl ?_
    refine e_iload_n dX0_errata_147 2 rfl rfl ?_
    refine e_icmp_geN j n 171 (by omega) (by omega) dX0_errata_148 (by decide) (fun h148 => ?_) (fun h148 => ?_)
    · refine e_forget (i := 6) (ln_s (ln_s (ln_s (ln_s (ln_s (ln_s ln_0)))))) ?_
      obtain rfl : j = n := by omega
      exact hE
    · refine e_aload_n dX0_errata_151 0 rfl rfl rfl ?_
      refine e_getf (v := (.ref 32)) dX0_errata_152 rfl fX0_90 (xm_o0) rfl ?_
      refine e_iload dX0_errata_155 rfl ?_
      refine e_aload dX0_errata_157 rfl rfl ?_
      refine e_iload dX0_errata_159 rfl ?_
      refine e_callV1 (As := [.int (nI j)]) (rest := [.int (nI j), .ref 32]) dX0_errata_161 rfl mvX0_173 (xm_oT hy) rfl (z_get (ξ := xB ξ 30 (rngL (ξ.2.2.2.1 30) 0 j (fun q => τ.2.2.2 4 (60 * y + q)))) hm hy hs hn60 hTr hD (by omega) (hg j (by omega)).2) (Nat.le_of_ble_eq_true rfl) rfl rfl (Nat.le_of_ble_eq_true rfl) (Nat.zero_le _) (Nat.zero_le _) ?_
      refine e_top (congrArg Value.long (hg j (by omega)).1) ?_
      refine e_last (f := (rngL (ξ.2.2.2.1 30) 0 j (fun q => τ.2.2.2 4 (60 * y + q)))) (j := j) dX0_errata_164 (xm_a30) rfl (by omega) (by decide) ?_
      rw [xm_s30]
      refine e_incN j (j + 1) (inc1 _) dX0_errata_165 rfl (ls_s (ls_s (ls_s (ls_s (ls_s (ls_1 rfl)))))) (Nat.le_of_ble_eq_true rfl) ?_
      refine e_goto 145 dX0_errata_168 (by decide) ?_
      rw [xB_xB]
      refine E_mem (M' := XM (xB ξ 30 (rngL (ξ.2.2.2.1 30) 0 (j + 1) (fun q => τ.2.2.2 4 (60 * y + q)))) mid dyn) ?_ ?_
      · rw [← rngL_s, Nat.zero_add]
      exact ih (j + 1) (by omega) (by omega) hE

theorem rgS_o {τ : Tw} {i j k : Nat} {v u : Int32} (hk : k ∉ [75, 76]) : (rgS (b0 τ) i v j u).2.2.1 k = τ.2.2.1 k :=
  (va_up_ne _ _ (fun e => hk (by rw [e]; decide))).trans (va_up_ne _ _ (fun e => hk (by rw [e]; decide)))
set_option maxHeartbeats 4000000 in
set_option maxRecDepth 100000 in
/-- WheelTables.errata -/
theorem x_errata {ξ : Xs} {mid dyn : List ACell} {τ : Tw} {own : Nat → Nat} (hm : mid.length = 61) (hRel : Rel own ξ dyn τ) (t n0 k0 b : Int32) : Ct yX0_errata (ws_ yX0_errata cX0_errata 7 (some .int)) 5 0 0 [.ref 0, .int t, .int n0, .int k0, .int b] (XM ξ mid dyn) (XQi mid (sp_errata t n0 k0 b τ)) noX := by
  obtain ⟨hI, hA, hB, hW, hP, hR, hT, hE, hC, hV⟩ := id hRel
  have hI4 := hE.1.1
  refine Ct.of (ini := false) (ls := [some (.ref 0), some (.int t), some (.int n0), some (.int k0), some (.int b), none, none]) (by decide) (Nat.le_of_ble_eq_true rfl) (fun h => by cases h) rfl ?_
  refine e_iload_n dX0_errata_0 1 rfl rfl ?_
  refine e_callSB (As := [.int t]) (rest := []) dX0_errata_1 rfl msX0_148 (x_isTray t) (Nat.le_of_ble_eq_true rfl) rfl rfl (Nat.le_of_ble_eq_true rfl) (Nat.zero_le _) (Nat.zero_le _) (fun h1 => ?_) (fun h1 => ?_)
  · have h1 : (0 ≤ t ∧ t < 4) := h1
    refine e_if_ne_t 13 (by decide) dX0_errata_4 (by decide) ?_
    obtain ⟨y, hy, rfl⟩ := in_0_4 h1
    refine e_aload_n dX0_errata_13 0 rfl rfl rfl ?_
    refine e_getf (v := (.ref 1)) dX0_errata_14 rfl fX0_11 (xm_o0) rfl ?_
    refine e_iload_n dX0_errata_17 1 rfl rfl ?_
    refine e_aald (f := trF) (j := y) dX0_errata_18 xm_r1 (fun _ => rfl) rfl (by omega) (by decide) ?_
    refine e_top (congrArg rfO (trF_at (by omega))) ?_
    refine e_astore dX0_errata_19 (ls_s (ls_s (ls_s (ls_s (ls_1 rfl))))) (Nat.le_of_ble_eq_true rfl) rfl ?_
    refine e_aload dX0_errata_21 rfl rfl ?_
    rcases hT y hy with ⟨e3, hTr, e2⟩ | ⟨s, nt, r0, g, hs, hn60, e2, e3, hTr, hD, hown3, hg⟩
    · have hO3 : (XM ξ mid dyn)[52 + y]? = some (.inr (3, [.null, .int 0])) := by rw [xm_oT hy, hTr]; rfl
      refine e_getf (v := .null) dX0_errata_23 rfl fX0_179 (hO3) rfl ?_
      refine e_ifnonnullN dX0_errata_26 ?_
      refine e_aload_n dX0_errata_29 0 rfl rfl rfl ?_
      refine e_iconst 3 dX0_errata_30 rfl ?_
      refine e_callV1 (As := [.int 3]) (rest := []) dX0_errata_31 rfl mvX0_169 (xm_o0) rfl (x_none 3) (Nat.le_of_ble_eq_true rfl) rfl rfl (Nat.le_of_ble_eq_true rfl) (Nat.zero_le _) (Nat.zero_le _) ?_
      refine e_ireturn dX0_errata_34 rfl rfl (Nat.zero_le _) (Nat.zero_le _) ?_
      refine ⟨_, _, own, rfl, ?_, ?_⟩
      · rw [sp_errata, if_pos (show 0 < spT (nI y) τ by rw [spT_m hy e3]; decide)]
      · rw [sp_errata, if_pos (show 0 < spT (nI y) τ by rw [spT_m hy e3]; decide), spT_m hy e3]; exact hRel.st 3
    · have hO3 : (XM ξ mid dyn)[52 + y]? = some (.inr (3, [.ref (117 + r0), .int (nI s)])) := by rw [xm_oT hy, hTr]; rfl
      refine e_getf (v := (.ref (117 + r0))) dX0_errata_23 rfl fX0_179 (hO3) rfl ?_
      refine e_ifnonnull 35 dX0_errata_26 (by decide) ?_
      refine e_iload_n dX0_errata_35 2 rfl rfl ?_
      refine e_iconst 3 dX0_errata_36 rfl ?_
      refine e_icmp_lt 74 dX0_errata_37 (by decide) (fun h37 => ?_) (fun h37 => ?_)
      · refine e_aload_n dX0_errata_74 0 rfl rfl rfl ?_
        refine e_iconst 5 dX0_errata_75 rfl ?_
        refine e_callV1 (As := [.int 5]) (rest := []) dX0_errata_76 rfl mvX0_169 (xm_o0) rfl (x_none 5) (Nat.le_of_ble_eq_true rfl) rfl rfl (Nat.le_of_ble_eq_true rfl) (Nat.zero_le _) (Nat.zero_le _) ?_
        refine e_ireturn dX0_errata_79 rfl rfl (Nat.zero_le _) (Nat.zero_le _) ?_
        refine ⟨_, _, own, rfl, ?_, ?_⟩
        · rw [sp_errata, if_neg (show ¬ 0 < spT (nI y) τ by rw [spT_ok hy hn60 e3]; decide), if_pos (fun z => i32_lt h37 z.1.1.1)]
        · rw [sp_errata, if_neg (show ¬ 0 < spT (nI y) τ by rw [spT_ok hy hn60 e3]; decide), if_pos (fun z => i32_lt h37 z.1.1.1)]; exact hRel.stE 5
      · refine e_iload_n dX0_errata_40 2 rfl rfl ?_
        refine e_bipush 20 dX0_errata_41 rfl ?_
        refine e_icmp_gt 74 dX0_errata_43 (by decide) (fun h43 => ?_) (fun h43 => ?_)
        · refine e_aload_n dX0_errata_74 0 rfl rfl rfl ?_
          refine e_iconst 5 dX0_errata_75 rfl ?_
          refine e_callV1 (As := [.int 5]) (rest := []) dX0_errata_76 rfl mvX0_169 (xm_o0) rfl (x_none 5) (Nat.le_of_ble_eq_true rfl) rfl rfl (Nat.le_of_ble_eq_true rfl) (Nat.zero_le _) (Nat.zero_le _) ?_
          refine e_ireturn dX0_errata_79 rfl rfl (Nat.zero_le _) (Nat.zero_le _) ?_
          refine ⟨_, _, own, rfl, ?_, ?_⟩
          · rw [sp_errata, if_neg (show ¬ 0 < spT (nI y) τ by rw [spT_ok hy hn60 e3]; decide), if_pos (fun z => absurd z.1.1.2 (Int32.not_le.mpr h43))]
          · rw [sp_errata, if_neg (show ¬ 0 < spT (nI y) τ by rw [spT_ok hy hn60 e3]; decide), if_pos (fun z => absurd z.1.1.2 (Int32.not_le.mpr h43))]; exact hRel.stE 5
        · refine e_iload_n dX0_errata_46 3 rfl rfl ?_
          refine e_iconst 1 dX0_errata_47 rfl ?_
          refine e_icmp_lt 74 dX0_errata_48 (by decide) (fun h48 => ?_) (fun h48 => ?_)
          · refine e_aload_n dX0_errata_74 0 rfl rfl rfl ?_
            refine e_iconst 5 dX0_errata_75 rfl ?_
            refine e_callV1 (As := [.int 5]) (rest := []) dX0_errata_76 rfl mvX0_169 (xm_o0) rfl (x_none 5) (Nat.le_of_ble_eq_true rfl) rfl rfl (Nat.le_of_ble_eq_true rfl) (Nat.zero_le _) (Nat.zero_le _) ?_
            refine e_ireturn dX0_errata_79 rfl rfl (Nat.zero_le _) (Nat.zero_le _) ?_
            refine ⟨_, _, own, rfl, ?_, ?_⟩
            · rw [sp_errata, if_neg (show ¬ 0 < spT (nI y) τ by rw [spT_ok hy hn60 e3]; decide), if_pos (fun z => i32_lt h48 z.1.2.1)]
            · rw [sp_errata, if_neg (show ¬ 0 < spT (nI y) τ by rw [spT_ok hy hn60 e3]; decide), if_pos (fun z => i32_lt h48 z.1.2.1)]; exact hRel.stE 5
          · refine e_iload_n dX0_errata_51 3 rfl rfl ?_
            refine e_iconst 4 dX0_errata_52 rfl ?_
            refine e_icmp_gt 74 dX0_errata_53 (by decide) (fun h53 => ?_) (fun h53 => ?_)
            · refine e_aload_n dX0_errata_74 0 rfl rfl rfl ?_
              refine e_iconst 5 dX0_errata_75 rfl ?_
              refine e_callV1 (As := [.int 5]) (rest := []) dX0_errata_76 rfl mvX0_169 (xm_o0) rfl (x_none 5) (Nat.le_of_ble_eq_true rfl) rfl rfl (Nat.le_of_ble_eq_true rfl) (Nat.zero_le _) (Nat.zero_le _) ?_
              refine e_ireturn dX0_errata_79 rfl rfl (Nat.zero_le _) (Nat.zero_le _) ?_
              refine ⟨_, _, own, rfl, ?_, ?_⟩
              · rw [sp_errata, if_neg (show ¬ 0 < spT (nI y) τ by rw [spT_ok hy hn60 e3]; decide), if_pos (fun z => absurd z.1.2.2 (Int32.not_le.mpr h53))]
              · rw [sp_errata, if_neg (show ¬ 0 < spT (nI y) τ by rw [spT_ok hy hn60 e3]; decide), if_pos (fun z => absurd z.1.2.2 (Int32.not_le.mpr h53))]; exact hRel.stE 5
            · refine e_iload_n dX0_errata_56 3 rfl rfl ?_
              refine e_iload_n dX0_errata_57 2 rfl rfl ?_
              refine e_icmp_ge 74 dX0_errata_58 (by decide) (fun h58 => ?_) (fun h58 => ?_)
              · refine e_aload_n dX0_errata_74 0 rfl rfl rfl ?_
                refine e_iconst 5 dX0_errata_75 rfl ?_
                refine e_callV1 (As := [.int 5]) (rest := []) dX0_errata_76 rfl mvX0_169 (xm_o0) rfl (x_none 5) (Nat.le_of_ble_eq_true rfl) rfl rfl (Nat.le_of_ble_eq_true rfl) (Nat.zero_le _) (Nat.zero_le _) ?_
                refine e_ireturn dX0_errata_79 rfl rfl (Nat.zero_le _) (Nat.zero_le _) ?_
                refine ⟨_, _, own, rfl, ?_, ?_⟩
                · rw [sp_errata, if_neg (show ¬ 0 < spT (nI y) τ by rw [spT_ok hy hn60 e3]; decide), if_pos (fun z => absurd z.2.1 (Int32.not_lt.mpr h58))]
                · rw [sp_errata, if_neg (show ¬ 0 < spT (nI y) τ by rw [spT_ok hy hn60 e3]; decide), if_pos (fun z => absurd z.2.1 (Int32.not_lt.mpr h58))]; exact hRel.stE 5
              · refine e_iload dX0_errata_61 rfl ?_
                refine e_if_lt 74 dX0_errata_63 (by decide) (fun h63 => ?_) (fun h63 => ?_)
                · refine e_aload_n dX0_errata_74 0 rfl rfl rfl ?_
                  refine e_iconst 5 dX0_errata_75 rfl ?_
                  refine e_callV1 (As := [.int 5]) (rest := []) dX0_errata_76 rfl mvX0_169 (xm_o0) rfl (x_none 5) (Nat.le_of_ble_eq_true rfl) rfl rfl (Nat.le_of_ble_eq_true rfl) (Nat.zero_le _) (Nat.zero_le _) ?_
                  refine e_ireturn dX0_errata_79 rfl rfl (Nat.zero_le _) (Nat.zero_le _) ?_
                  refine ⟨_, _, own, rfl, ?_, ?_⟩
                  · rw [sp_errata, if_neg (show ¬ 0 < spT (nI y) τ by rw [spT_ok hy hn60 e3]; decide), if_pos (fun z => i32_lt h63 z.2.2.1)]
                  · rw [sp_errata, if_neg (show ¬ 0 < spT (nI y) τ by rw [spT_ok hy hn60 e3]; decide), if_pos (fun z => i32_lt h63 z.2.2.1)]; exact hRel.stE 5
                · refine e_iload dX0_errata_66 rfl ?_
                  refine e_sipush 1000 dX0_errata_68 rfl ?_
                  refine e_icmp_le 80 dX0_errata_71 (by decide) (fun h71 => ?_) (fun h71 => ?_)
                  · have spE : spErr n0 k0 b := ⟨⟨⟨i32_nlt h37, i32_nlt h43⟩, ⟨i32_nlt h48, i32_nlt h53⟩⟩, i32_nle h58, i32_nlt h63, h71⟩
                    obtain ⟨n, hn, rfl⟩ := in_le (x := n0) 20 (by decide) (fun z => h37 (Int32.lt_trans z (by decide))) (i32_nlt h43)
                    obtain ⟨k, hk4, rfl⟩ := in_le (x := k0) 4 (by decide) (fun z => h48 (Int32.lt_trans z (by decide))) (i32_nlt h53)
                    have hk : 1 ≤ k ∧ k ≤ 4 := ⟨(nI_leN (a := 1) (by omega) (by omega)).mp (i32_nlt h48), hk4⟩
                    have hn3 : 3 ≤ n := (nI_leN (a := 3) (by omega) (by omega)).mp (i32_nlt h37)
                    have hkn : k < n := Nat.lt_of_not_le (fun z => h58 ((nI_leN (by omega) (by omega)).mpr z))
                    refine e_aload dX0_errata_80 rfl rfl ?_
                    refine e_callV1 (As := []) (rest := []) dX0_errata_82 rfl mvX0_204 (xm_oT hy) rfl (y_manyS hm hy hs hn60 hTr hD) (Nat.le_of_ble_eq_true rfl) rfl rfl (Nat.le_of_ble_eq_true rfl) (Nat.zero_le _) (Nat.zero_le _) ?_
                    refine e_iload_n dX0_errata_85 2 rfl rfl ?_
                    refine e_icmp_geN nt n 95 (by omega) (by omega) dX0_errata_86 (by decide) (fun h86 => ?_) (fun h86 => ?_)
                    · refine e_iconst 0 dX0_errata_95 rfl ?_
                      refine e_istore dX0_errata_96 (ls_s (ls_s (ls_s (ls_s (ls_s (ls_1 rfl)))))) (Nat.le_of_ble_eq_true rfl) ?_
                      refine x_err1 (k := k) (b := b) hm hn (by omega) hn60 hs hy hTr hD hg (n + 1) 0 (Nat.zero_le _) (by omega) rfl (fun hz => ⟨_, _, own, rfl, by rw [sp_errata, if_neg (show ¬ 0 < spT (nI y) τ by rw [spT_ok hy hn60 e3]; decide), if_neg (fun z => z spE), ix_nI (show y < 2147483648 by omega), e3, if_neg (fun z => absurd ((nI_ltN (by omega) (by omega)).mp z) (by omega)), ix_nI (show n < 2147483648 by omega), if_pos hz], by rw [sp_errata, if_neg (show ¬ 0 < spT (nI y) τ by rw [spT_ok hy hn60 e3]; decide), if_neg (fun z => z spE), ix_nI (show y < 2147483648 by omega), e3, if_neg (fun z => absurd ((nI_ltN (by omega) (by omega)).mp z) (by omega)), ix_nI (show n < 2147483648 by omega), if_pos hz]; exact hRel.stE 5⟩) (fun hz => ?_)
                      have eS : sp_errata (nI y) (nI n) (nI k) b τ = spFind n k b (spTb τ y) (spXs τ y) τ := by
                        rw [sp_errata, if_neg (show ¬ 0 < spT (nI y) τ by rw [spT_ok hy hn60 e3]; decide), if_neg (fun z => z spE), ix_nI (show y < 2147483648 by omega), e3, if_neg (fun z => absurd ((nI_ltN (by omega) (by omega)).mp z) (by omega)), ix_nI (show n < 2147483648 by omega), ix_nI (show k < 2147483648 by omega), if_neg (fun z => z hz)]
                      refine e_iconst 0 dX0_errata_142 rfl ?_
                      refine e_istore dX0_errata_143 (ls_s (ls_s (ls_s (ls_s (ls_s (ls_1 rfl)))))) (Nat.le_of_ble_eq_true rfl) ?_
                      refine E_mem (M' := XM (xB ξ 30 (rngL (ξ.2.2.2.1 30) 0 0 (fun q => τ.2.2.2 4 (60 * y + q)))) mid dyn) ?_ ?_
                      · rw [rngL_0, xB_self]
                      refine x_err2 (k := k) (b := b) hm hn (by omega) hn60 hs hy hTr hD hg (n + 1) 0 (Nat.zero_le _) (by omega) ?_
                      refine e_aload_n dX0_errata_171 0 rfl rfl rfl ?_
                      refine e_iload_n dX0_errata_172 2 rfl rfl ?_
                      refine e_xputI dX0_errata_173 rfl pX0_415 rfl (xm_o0) (Nat.le_of_ble_eq_true rfl) (xm_f35 _) ?_
                      refine e_aload_n dX0_errata_176 0 rfl rfl rfl ?_
                      refine e_iload_n dX0_errata_177 3 rfl rfl ?_
                      refine e_xputI dX0_errata_178 rfl pX0_406 rfl (xm_o0) (Nat.le_of_ble_eq_true rfl) (xm_f36 _) ?_
                      refine e_aload_n dX0_errata_181 0 rfl rfl rfl ?_
                      refine e_iload dX0_errata_182 rfl ?_
                      refine e_xputI dX0_errata_184 rfl pX0_409 rfl (xm_o0) (Nat.le_of_ble_eq_true rfl) (xm_f37 _) ?_
                      obtain ⟨ξ1, hξ1⟩ : ∃ ξ1, xI (xI (xI (xB ξ 30 (rngL (ξ.2.2.2.1 30) 0 n (fun q => τ.2.2.2 4 (60 * y + q)))) 35 (nI n)) 36 (nI k)) 37 b = ξ1 := ⟨_, rfl⟩
                      have hSy : Sy sI sA sB ξ1 ξ := by rw [← hξ1]; exact (((Sy.rf.B _ rfl).I _ rfl).I _ rfl).I _ rfl
                      have hN : ξ1.1 35 = nI n := by rw [← hξ1]; rfl
                      have hK : ξ1.1 36 = nI k := by rw [← hξ1]; rfl
                      have hBd : ξ1.1 37 = b := by rw [← hξ1]; rfl
                      have hTq : ∀ q, q < n → ξ1.2.2.2.1 30 q = spTb τ y q := fun q hq => by
                        rw [← hξ1]
                        show (rngL (ξ.2.2.2.1 30) 0 n (fun q => τ.2.2.2 4 (60 * y + q))) q = _
                        unfold rngL
                        rw [if_pos (by omega), Nat.sub_zero]
                        rfl
                      obtain ⟨T, hT⟩ : ∃ T, ξ1.2.2.2.1 30 = T := ⟨_, rfl⟩
                      rw [hT] at hTq
                      obtain ⟨xs, hxe⟩ : ∃ xs, spXs τ y = xs := ⟨_, rfl⟩
                      have hxs : ∀ q, q < n → xs q ≤ 99999999 ∧ T q = lN (xs q) := fun q hq => by
                        have h9 := of_decide_eq_true (allB_iff.mp hz q hq)
                        rw [← hxe, hTq q hq]
                        exact lN_99 h9.1 h9.2
                      rw [hxe, ← spFind_cg hTq] at eS
                      have hS : ErS ξ1 T ξ1 := ⟨rfl, hT, Sy.rf⟩
                      rw [hξ1]
                      refine e_aload_n dX0_errata_187 0 rfl rfl rfl ?_
                      refine e_bipush (-8) dX0_errata_188 rfl ?_
                      refine e_bipush (-8) dX0_errata_190 rfl ?_
                      refine e_callVB (As := [.int (-8), .int (-8)]) (rest := []) dX0_errata_192 rfl mvX0_424 (xm_o0) rfl (x_areAll (ξ := ξ1) hn hk hkn ((congrFun hS.1 35).trans hN) ((congrFun hS.1 36).trans hK) ((congrFun hS.1 37).trans hBd) (-8) (-8)) (Nat.le_of_ble_eq_true rfl) rfl rfl (Nat.le_of_ble_eq_true rfl) (Nat.zero_le _) (Nat.zero_le _) (fun h192 => ?_) (fun h192 => ?_)
                      · have h192 : (alB n k b (ξ1.2.2.2.1 30) (-8) (-8) = true) := h192
                        refine e_if_eq_f (by decide) 212 dX0_errata_195 (by decide) ?_
                        refine e_aload_n dX0_errata_198 0 rfl rfl rfl ?_
                        refine e_iconst (-1) dX0_errata_199 rfl ?_
                        refine e_iconst 0 dX0_errata_200 rfl ?_
                        refine e_iconst (-1) dX0_errata_201 rfl ?_
                        refine e_iconst 0 dX0_errata_202 rfl ?_
                        refine e_callV0 (As := [.int (-1), .int 0, .int (-1), .int 0]) (rest := []) dX0_errata_203 rfl mvX0_434 (xm_o0) rfl (x_found (ξ := ξ1) (-1) 0 (-1) 0) (Nat.le_of_ble_eq_true rfl) rfl rfl (Nat.le_of_ble_eq_true rfl) (Nat.zero_le _) (Nat.zero_le _) ?_
                        refine e_aload_n dX0_errata_206 0 rfl rfl rfl ?_
                        refine e_iconst 0 dX0_errata_207 rfl ?_
                        refine e_callV1 (As := [.int 0]) (rest := []) dX0_errata_208 rfl mvX0_215 (xm_o0) rfl (x_gives 0) (Nat.le_of_ble_eq_true rfl) rfl rfl (Nat.le_of_ble_eq_true rfl) (Nat.zero_le _) (Nat.zero_le _) ?_
                        refine e_ireturn dX0_errata_211 rfl rfl (Nat.zero_le _) (Nat.zero_le _) ?_
                        rw [alB_sm hn, hT] at h192
                        have eF : spFind n k b T xs τ = (0, cpF (b0 τ) 0) := by
                          unfold spFind
                          rw [if_pos h192]
                        refine ⟨_, _, own, rfl, by rw [eS, eF], ?_⟩
                        rw [eS, eF]
                        exact Rel.fnd hRel hSy (by decide) rfl (fun _ _ => rfl) rfl (fun z => absurd z (by decide)) (fun z => absurd z (by decide)) (fun _ => rfl) (fun _ => rfl)
                      · have h192 : ¬ (alB n k b (ξ1.2.2.2.1 30) (-8) (-8) = true) := h192
                        refine e_if_eq_t 212 (by decide) dX0_errata_195 (by decide) ?_
                        refine e_aload_n dX0_errata_212 0 rfl rfl rfl ?_
                        refine e_callVQ (As := []) (rest := []) dX0_errata_213 rfl mvX0_442 (xm_o0) rfl (x_oneRight hn hk hkn hN hK hBd hxs hT) (Nat.le_of_ble_eq_true rfl) rfl rfl (Nat.le_of_ble_eq_true rfl) (Nat.zero_le _) (Nat.zero_le _) (fun v0 M0 h0_ _ => ?_)
                        rcases h0_ with ⟨a, m, ξ2, U, ha, e1, e2, hS2, rfl, rfl⟩ | ⟨ξ2, hS2, e2, rfl, rfl⟩
                        · refine e_if_eq_f (by decide) 225 dX0_errata_216 (by decide) ?_
                          refine e_aload_n dX0_errata_219 0 rfl rfl rfl ?_
                          refine e_iconst 1 dX0_errata_220 rfl ?_
                          refine e_callV1 (As := [.int 1]) (rest := []) dX0_errata_221 rfl mvX0_215 (xm_o0) rfl (x_gives 1) (Nat.le_of_ble_eq_true rfl) rfl rfl (Nat.le_of_ble_eq_true rfl) (Nat.zero_le _) (Nat.zero_le _) ?_
                          refine e_ireturn dX0_errata_224 rfl rfl (Nat.zero_le _) (Nat.zero_le _) ?_
                          rw [alB_sm hn, hT] at h192
                          have e5 : spFst1 n k b T xs = some a := fstN_some (p := fun i => (spOne n k b T xs i).isSome) (m := a) (by rw [e1]; rfl) (Nat.zero_le _) (by omega) (fun j _ hj => by show (spOne n k b T xs j).isSome = false; rw [e2 j hj]; rfl)
                          have eF : spFind n k b T xs τ = (1, cpF (rgS (b0 τ) a ((corL (xs a)).2 m) a ((corL (xs a)).2 m)) 1) := by
                            unfold spFind
                            rw [if_neg h192, e5]
                            show (1, cpF (rgS (b0 τ) a ((corL (xs a)).2 ((spOne n k b T xs a).getD 0)) a ((corL (xs a)).2 ((spOne n k b T xs a).getD 0))) 1) = _
                            rw [e1]
                            rfl
                          refine ⟨_, _, own, rfl, by rw [eS, eF], ?_⟩
                          rw [eS, eF]
                          exact Rel.fnd hRel (hS2.2.2.trans hSy) (by decide) rfl (fun k hk => rgS_o hk) rfl (fun _ => ⟨rfl, rfl, (fun z => nI_pos (n := a) (by omega) (by rw [z]; decide))⟩) (fun z => absurd z (by decide)) (fun z => absurd (by decide) z) (fun _ => rfl)
                        · refine e_if_eq_t 225 (by decide) dX0_errata_216 (by decide) ?_
                          refine e_aload_n dX0_errata_225 0 rfl rfl rfl ?_
                          refine e_callVQ (As := []) (rest := []) dX0_errata_226 rfl mvX0_446 (xm_o0) rfl (x_twoRight hn hk hkn hN hK hBd hxs hS2) (Nat.le_of_ble_eq_true rfl) rfl rfl (Nat.le_of_ble_eq_true rfl) (Nat.zero_le _) (Nat.zero_le _) (fun v0 M0 h0_ _ => ?_)
                          rcases h0_ with ⟨q, m, ξ3, U, hq1, hq2, e3_, e4, hS3, rfl, rfl⟩ | ⟨ξ3, hS3, e3_, rfl, rfl⟩
                          · refine e_if_eq_f (by decide) 240 dX0_errata_229 (by decide) ?_
                            refine e_aload_n dX0_errata_232 0 rfl rfl rfl ?_
                            refine e_iconst 2 dX0_errata_233 rfl ?_
                            refine e_callV1 (As := [.int 2]) (rest := []) dX0_errata_234 rfl mvX0_215 (xm_o0) rfl (x_gives 2) (Nat.le_of_ble_eq_true rfl) rfl rfl (Nat.le_of_ble_eq_true rfl) (Nat.zero_le _) (Nat.zero_le _) ?_
                            refine e_goto 246 dX0_errata_237 (by decide) ?_
                            refine e_ireturn dX0_errata_246 rfl rfl (Nat.zero_le _) (Nat.zero_le _) ?_
                            rw [alB_sm hn, hT] at h192
                            have e5 : spFst1 n k b T xs = none := fstN_none (fun j _ hj => by show (spOne n k b T xs j).isSome = false; rw [e2 j (by omega)]; rfl)
                            have eF : spFind n k b T xs τ = (2, cpF (rgS (b0 τ) (q / n) ((corL (xs (q / n))).2 (m / rgM xs (q % n))) (q % n) ((corL (xs (q % n))).2 (m % rgM xs (q % n)))) 2) := by
                              unfold spFind
                              rw [if_neg h192, e5, e3_]
                              show (2, cpF (rgS (b0 τ) (q / n) ((corL (xs (q / n))).2 ((spTwo n k b T xs (q / n) (q % n)).getD 0 / rgM xs (q % n))) (q % n) ((corL (xs (q % n))).2 ((spTwo n k b T xs (q / n) (q % n)).getD 0 % rgM xs (q % n)))) 2) = _
                              rw [e4]
                              rfl
                            refine ⟨_, _, own, rfl, by rw [eS, eF], ?_⟩
                            rw [eS, eF]
                            exact Rel.fnd hRel (hS3.2.2.trans hSy) (by decide) rfl (fun k hk => rgS_o hk) rfl (fun _ => ⟨rfl, rfl, (fun z => nI_pos (n := q / n) (by omega) (by rw [z]; decide))⟩) (fun _ => ⟨rfl, rfl, (fun z => nI_pos (n := q % n) (by omega) (by rw [z]; decide))⟩) (fun z => absurd (by decide) z) (fun z => absurd (by decide) z)
                          · refine e_if_eq_t 240 (by decide) dX0_errata_229 (by decide) ?_
                            refine e_aload_n dX0_errata_240 0 rfl rfl rfl ?_
                            refine e_bipush 8 dX0_errata_241 rfl ?_
                            refine e_callV1 (As := [.int 8]) (rest := []) dX0_errata_243 rfl mvX0_169 (xm_o0) rfl (x_none 8) (Nat.le_of_ble_eq_true rfl) rfl rfl (Nat.le_of_ble_eq_true rfl) (Nat.zero_le _) (Nat.zero_le _) ?_
                            refine e_ireturn dX0_errata_246 rfl rfl (Nat.zero_le _) (Nat.zero_le _) ?_
                            rw [alB_sm hn, hT] at h192
                            have e5 : spFst1 n k b T xs = none := fstN_none (fun j _ hj => by show (spOne n k b T xs j).isSome = false; rw [e2 j (by omega)]; rfl)
                            have eF : spFind n k b T xs τ = (-1, bE τ 8) := by
                              unfold spFind
                              rw [if_neg h192, e5, e3_]
                            refine ⟨_, _, own, rfl, by rw [eS, eF], ?_⟩
                            rw [eS, eF]
                            exact (hRel.sq (hS3.2.2.trans hSy)).stE 8
                    · refine e_aload_n dX0_errata_89 0 rfl rfl rfl ?_
                      refine e_iconst 4 dX0_errata_90 rfl ?_
                      refine e_callV1 (As := [.int 4]) (rest := []) dX0_errata_91 rfl mvX0_169 (xm_o0) rfl (x_none 4) (Nat.le_of_ble_eq_true rfl) rfl rfl (Nat.le_of_ble_eq_true rfl) (Nat.zero_le _) (Nat.zero_le _) ?_
                      refine e_ireturn dX0_errata_94 rfl rfl (Nat.zero_le _) (Nat.zero_le _) ?_
                      refine ⟨_, _, own, rfl, ?_, ?_⟩
                      · rw [sp_errata, if_neg (show ¬ 0 < spT (nI y) τ by rw [spT_ok hy hn60 e3]; decide), if_neg (fun z => z spE), ix_nI (show y < 2147483648 by omega), e3, if_pos ((nI_ltN (by omega) (by omega)).mpr (by omega))]
                      · rw [sp_errata, if_neg (show ¬ 0 < spT (nI y) τ by rw [spT_ok hy hn60 e3]; decide), if_neg (fun z => z spE), ix_nI (show y < 2147483648 by omega), e3, if_pos ((nI_ltN (by omega) (by omega)).mpr (by omega))]; exact hRel.stE 4
                  · refine e_aload_n dX0_errata_74 0 rfl rfl rfl ?_
                    refine e_iconst 5 dX0_errata_75 rfl ?_
                    refine e_callV1 (As := [.int 5]) (rest := []) dX0_errata_76 rfl mvX0_169 (xm_o0) rfl (x_none 5) (Nat.le_of_ble_eq_true rfl) rfl rfl (Nat.le_of_ble_eq_true rfl) (Nat.zero_le _) (Nat.zero_le _) ?_
                    refine e_ireturn dX0_errata_79 rfl rfl (Nat.zero_le _) (Nat.zero_le _) ?_
                    refine ⟨_, _, own, rfl, ?_, ?_⟩
                    · rw [sp_errata, if_neg (show ¬ 0 < spT (nI y) τ by rw [spT_ok hy hn60 e3]; decide), if_pos (fun z => h71 z.2.2.2)]
                    · rw [sp_errata, if_neg (show ¬ 0 < spT (nI y) τ by rw [spT_ok hy hn60 e3]; decide), if_pos (fun z => h71 z.2.2.2)]; exact hRel.stE 5
  · have h1 : ¬ (0 ≤ t ∧ t < 4) := h1
    refine e_if_ne_f (by decide) 13 dX0_errata_4 (by decide) ?_
    refine e_aload_n dX0_errata_7 0 rfl rfl rfl ?_
    refine e_iconst 1 dX0_errata_8 rfl ?_
    refine e_callV1 (As := [.int 1]) (rest := []) dX0_errata_9 rfl mvX0_169 (xm_o0) rfl (x_none 1) (Nat.le_of_ble_eq_true rfl) rfl rfl (Nat.le_of_ble_eq_true rfl) (Nat.zero_le _) (Nat.zero_le _) ?_
    refine e_ireturn dX0_errata_12 rfl rfl (Nat.zero_le _) (Nat.zero_le _) ?_
    refine ⟨_, _, own, rfl, ?_, ?_⟩
    · rw [sp_errata, if_pos (show 0 < spT t τ by rw [spT_r h1]; decide)]
    · rw [sp_errata, if_pos (show 0 < spT t τ by rw [spT_r h1]; decide), spT_r h1]; exact hRel.st 1

