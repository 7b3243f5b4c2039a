/-! ===== the twin: errata, corrections ===== -/
/-- those above a, up to b, one place on -/
def shF (V : Nat → Int64) (a b : Nat) : Nat → Int64 := fun z => if a < z ∧ z ≤ b then V (z - 1) else V z
theorem shF_0 {V : Nat → Int64} {a : Nat} : shF V a a = V := by
  funext z; unfold shF; rw [if_neg (by omega)]
theorem shF_s {V : Nat → Int64} {a r b : Nat} (h : a + (r + 1) ≤ b) : vp_updL (shF V (a + (r + 1)) b) (a + (r + 1)) (shF V (a + (r + 1)) b (a + (r + 1) - 1)) = shF V (a + r) b := by
  have e1 : shF V (a + (r + 1)) b (a + (r + 1) - 1) = V (a + (r + 1) - 1) := by unfold shF; rw [if_neg (by omega)]
  rw [e1]
  funext z
  unfold vp_updL
  by_cases ez : z = a + (r + 1)
  · subst ez
    unfold shF
    rw [if_pos rfl, if_pos (by omega)]
  · rw [if_neg ez]
    unfold shF
    by_cases e2 : a + (r + 1) < z ∧ z ≤ b
    · rw [if_pos e2, if_pos (by omega)]
    · rw [if_neg e2, if_neg (by omega)]
theorem tAB_A (τ : Tw) (V : Nat → Int64) (C C' : Nat → Int32) : tA (tA (tB τ 72 V) 73 C) 73 C' = tA (tB τ 72 V) 73 C' := tA_tA ..
theorem tAB_B (τ : Tw) (V V' : Nat → Int64) (C : Nat → Int32) : tB (tA (tB τ 72 V) 73 C) 72 V' = tA (tB τ 72 V') 73 C := by
  rw [show tB (tA (tB τ 72 V) 73 C) 72 V' = tA (tB (tB τ 72 V) 72 V') 73 C from rfl, tB_tB]
set_option maxHeartbeats 4000000 in
set_option maxRecDepth 100000 in
/-- a loop of varies -/
theorem t_var1 {pre post : List ACell} {τ0 : Tw} (hp : pre.length = 56) {i m : Nat} {f : Nat → Int32} {v : Int32} (hi : i < 20) (hm : m ≤ 79) {V : Nat → Int64} {C : Nat → Int32} (hC : C i = nI m) (hV : ∀ q, q < m → V (80 * i + q) = (f q).toInt64) {Q : Qfun} : ∀ (fuel : Nat) (p : Nat), p ≤ m → p < fuel → posV f v m = posV f v p → (∀ p, p ≤ m → posV f v m = p → E cX4_varies (RX4, none, 5, 0, (0, 0), false, []) Q noX 0 0 40 [some (.ref 56), some (.int (nI i)), some (.int v), some (.int (nI (80 * i + p))), none] [] (TW pre (tA (tB τ0 72 V) 73 C) post)) →
    E cX4_varies (RX4, none, 5, 0, (0, 0), false, []) Q noX 0 0 12 [some (.ref 56), some (.int (nI i)), some (.int v), some (.int (nI (80 * i + p))), none] [] (TW pre (tA (tB τ0 72 V) 73 C) post) := by
  intro fuel
  induction fuel with
  | zero => intro p hpm hf hps hE; exact absurd hf (by omega)
  | succ fuel ih =>
    intro p hpm hf hps hE
    refine e_iload_n dX4_varies_12 3 rfl rfl ?_
    refine e_bipush 80 dX4_varies_13 rfl ?_
    refine e_iload_n dX4_varies_15 1 rfl rfl ?_
    refine e_imulN 80 i dX4_varies_16 ?_
    refine e_icmp_leN (80 * i + p) (80 * i) 40 (by omega) (by omega) dX4_varies_17 (by decide) (fun h17 => ?_) (fun h17 => ?_)
    · have e1 : p = 0 := by omega
      subst e1
      exact hE 0 (by omega) hps
    · obtain ⟨q, rfl⟩ : ∃ q, p = q + 1 := ⟨p - 1, by omega⟩
      have hvq := hV q (by omega)
      have eq1 : 80 * i + (q + 1) - 1 = 80 * i + q := by omega
      refine e_aload_n dX4_varies_20 0 rfl rfl rfl ?_
      refine e_getf (v := .ref 97) dX4_varies_21 rfl fX4_152 (tw_o hp) rfl ?_
      refine e_iload_n dX4_varies_24 3 rfl rfl ?_
      refine e_iconst 1 dX4_varies_25 rfl ?_
      refine e_isubN (80 * i + (q + 1)) 1 (by omega) dX4_varies_26 ?_
      refine e_lald (f := V) (j := (80 * i + (q + 1)) - 1) dX4_varies_27 (tw_a72 hp) rfl (by omega) (by decide) ?_
      refine e_iload_n dX4_varies_28 2 rfl rfl ?_
      refine e_i2l dX4_varies_29 ?_
      refine e_lcmp_le 40 dX4_varies_30 dX4_varies_31 (by decide) (fun h30 => ?_) (fun h30 => ?_)
      · have e2 : ¬ v < f q := fun z => absurd (toI64_lt.mpr z) (by rw [← hvq]; exact Int64.not_lt.mpr h30)
        exact hE (q + 1) (by omega) (hps.trans (posV_ge e2))
      · refine e_incN (80 * i + (q + 1)) (80 * i + (q + 1) - 1) (decm1 (by omega)) dX4_varies_34 rfl (ls_s (ls_s (ls_1 rfl))) (Nat.le_of_ble_eq_true rfl) ?_
        refine e_goto 12 dX4_varies_37 (by decide) ?_
        rw [eq1] at h30
        have e2 : v < f q := toI64_lt.mp (by rw [← hvq]; exact Int64.not_le.mp h30)
        exact ih q (by omega) (by omega) (hps.trans (posV_lt e2)) hE

set_option maxHeartbeats 4000000 in
set_option maxRecDepth 100000 in
/-- a loop of varies -/
theorem t_var2 {pre post : List ACell} {τ0 : Tw} (hp : pre.length = 56) {i m : Nat} {f : Nat → Int32} {v : Int32} (hi : i < 20) (hm : m ≤ 79) {V : Nat → Int64} {C : Nat → Int32} {p : Nat} (hpm : p ≤ m) {Q : Qfun} : ∀ (fuel : Nat) (q : Nat) (W : Nat → Int64), p ≤ q ∧ q ≤ m → q < fuel → W = (shF V (80 * i + q) (80 * i + m)) → E cX4_varies (RX4, none, 5, 0, (0, 0), false, []) Q noX 0 0 104 [some (.ref 56), some (.int (nI i)), some (.int v), some (.int (nI (80 * i + p))), none] [] (TW pre (tA (tB τ0 72 (shF V (80 * i + p) (80 * i + m))) 73 C) post) →
    E cX4_varies (RX4, none, 5, 0, (0, 0), false, []) Q noX 0 0 76 [some (.ref 56), some (.int (nI i)), some (.int v), some (.int (nI (80 * i + p))), some (.int (nI (80 * i + q)))] [] (TW pre (tA (tB τ0 72 W) 73 C) post) := by
  intro fuel
  induction fuel with
  | zero => intro q W hq hf hW hE; exact absurd hf (by omega)
  | succ fuel ih =>
    intro q W hq hf hW hE
    refine e_iload dX4_varies_76 rfl ?_
    refine e_iload_n dX4_varies_78 3 rfl rfl ?_
    refine e_icmp_leN (80 * i + q) (80 * i + p) 104 (by omega) (by omega) dX4_varies_79 (by decide) (fun h79 => ?_) (fun h79 => ?_)
    · refine e_forget (i := 4) (ln_s (ln_s (ln_s (ln_s ln_0)))) ?_
      have e1 : q = p := by omega
      subst e1
      rw [← hW] at hE
      exact hE
    · obtain ⟨r, rfl⟩ : ∃ r, q = r + 1 := ⟨q - 1, by omega⟩
      refine e_aload_n dX4_varies_82 0 rfl rfl rfl ?_
      refine e_getf (v := .ref 97) dX4_varies_83 rfl fX4_152 (tw_o hp) rfl ?_
      refine e_iload dX4_varies_86 rfl ?_
      refine e_aload_n dX4_varies_88 0 rfl rfl rfl ?_
      refine e_getf (v := .ref 97) dX4_varies_89 rfl fX4_152 (tw_o hp) rfl ?_
      refine e_iload dX4_varies_92 rfl ?_
      refine e_iconst 1 dX4_varies_94 rfl ?_
      refine e_isubN (80 * i + (r + 1)) 1 (by omega) dX4_varies_95 ?_
      refine e_lald (f := W) (j := (80 * i + (r + 1)) - 1) dX4_varies_96 (tw_a72 hp) rfl (by omega) (by decide) ?_
      refine e_last (f := W) (j := 80 * i + (r + 1)) dX4_varies_97 (tw_a72 hp) rfl (by omega) (by decide) ?_
      rw [tw_s72 hp]
      refine e_incN (80 * i + (r + 1)) (80 * i + (r + 1) - 1) (decm1 (by omega)) dX4_varies_98 rfl (ls_s (ls_s (ls_s (ls_1 rfl)))) (Nat.le_of_ble_eq_true rfl) ?_
      refine e_goto 76 dX4_varies_101 (by decide) ?_
      rw [tAB_B]
      refine ih r _ (by omega) (by omega) ?_ hE
      rw [hW]
      exact shF_s (by omega)

set_option maxHeartbeats 4000000 in
set_option maxRecDepth 100000 in
/-- WheelTablesModel.varies -/
theorem t_varies {pre post : List ACell} {τ0 : Tw} (hp : pre.length = 56) {i m : Nat} {f : Nat → Int32} {v : Int32} (hi : i < 20) (hm : m ≤ 79) {V : Nat → Int64} {C : Nat → Int32} (hO : VO i (m, f) V C) : Ct yX4_varies (ws_ yX4_varies cX4_varies 5 none) 0 0 0 [.ref 56, .int (nI i), .int v] (TW pre (tA (tB τ0 72 V) 73 C) post) (fun v0 N => ∃ V2 C2, N = TW pre (tA (tB τ0 72 V2) 73 C2) post ∧ v0 = none ∧ VO i (insV v (m, f)) V2 C2 ∧ VX i V V2 C C2) noX := by
  obtain ⟨hC, hV⟩ := hO
  have hC : C i = nI m := hC
  have hV : ∀ q, q < m → V (80 * i + q) = (f q).toInt64 := hV
  refine Ct.of (ini := false) (ls := [some (.ref 56), some (.int (nI i)), some (.int v), none, none]) (by decide) (Nat.le_of_ble_eq_true rfl) (fun h => by cases h) rfl ?_
  refine e_bipush 80 dX4_varies_0 rfl ?_
  refine e_iload_n dX4_varies_2 1 rfl rfl ?_
  refine e_imulN 80 i dX4_varies_3 ?_
  refine e_aload_n dX4_varies_4 0 rfl rfl rfl ?_
  refine e_getf (v := .ref 98) dX4_varies_5 rfl fX4_155 (tw_o hp) rfl ?_
  refine e_iload_n dX4_varies_8 1 rfl rfl ?_
  refine e_iald (f := C) (j := i) dX4_varies_9 (tw_a73 hp) rfl (by omega) (by decide) ?_
  refine e_top (congrArg Value.int hC) ?_
  refine e_iaddN (80 * i) m dX4_varies_10 ?_
  refine e_istore_n dX4_varies_11 3 rfl (ls_s (ls_s (ls_1 rfl))) (Nat.le_of_ble_eq_true rfl) ?_
  refine t_var1 hp hi hm hC hV (m + 1) m (Nat.le_refl _) (by omega) rfl (fun p hpm hpos => ?_)
  refine e_iload_n dX4_varies_40 3 rfl rfl ?_
  refine e_bipush 80 dX4_varies_41 rfl ?_
  refine e_iload_n dX4_varies_43 1 rfl rfl ?_
  refine e_imulN 80 i dX4_varies_44 ?_
  refine e_icmp_leN (80 * i + p) (80 * i) 63 (by omega) (by omega) dX4_varies_45 (by decide) (fun h45 => ?_) (fun h45 => ?_)
  · refine e_bipush 80 dX4_varies_63 rfl ?_
    refine e_iload_n dX4_varies_65 1 rfl rfl ?_
    refine e_imulN 80 i dX4_varies_66 ?_
    refine e_aload_n dX4_varies_67 0 rfl rfl rfl ?_
    refine e_getf (v := .ref 98) dX4_varies_68 rfl fX4_155 (tw_o hp) rfl ?_
    refine e_iload_n dX4_varies_71 1 rfl rfl ?_
    refine e_iald (f := C) (j := i) dX4_varies_72 (tw_a73 hp) rfl (by omega) (by decide) ?_
    refine e_top (congrArg Value.int hC) ?_
    refine e_iaddN (80 * i) m dX4_varies_73 ?_
    refine e_istore dX4_varies_74 (ls_s (ls_s (ls_s (ls_1 rfl)))) (Nat.le_of_ble_eq_true rfl) ?_
    refine t_var2 (f := f) hp hi hm (p := p) hpm (m + 1) m V (by omega) (by omega) shF_0.symm ?_
    refine e_aload_n dX4_varies_104 0 rfl rfl rfl ?_
    refine e_getf (v := .ref 97) dX4_varies_105 rfl fX4_152 (tw_o hp) rfl ?_
    refine e_iload_n dX4_varies_108 3 rfl rfl ?_
    refine e_iload_n dX4_varies_109 2 rfl rfl ?_
    refine e_i2l dX4_varies_110 ?_
    refine e_last (f := (shF V (80 * i + p) (80 * i + m))) (j := 80 * i + p) dX4_varies_111 (tw_a72 hp) rfl (by omega) (by decide) ?_
    rw [tw_s72 hp]
    refine e_aload_n dX4_varies_112 0 rfl rfl rfl ?_
    refine e_getf (v := .ref 98) dX4_varies_113 rfl fX4_155 (tw_o hp) rfl ?_
    refine e_iload_n dX4_varies_116 1 rfl rfl ?_
    refine e_dup2 dX4_varies_117 rfl rfl ?_
    refine e_iald (f := C) (j := i) dX4_varies_118 (tw_a73 hp) rfl (by omega) (by decide) ?_
    refine e_top (congrArg Value.int hC) ?_
    refine e_iconst 1 dX4_varies_119 rfl ?_
    refine e_iaddN m 1 dX4_varies_120 ?_
    refine e_iast (f := C) (j := i) dX4_varies_121 (tw_a73 hp) rfl (by omega) (by decide) ?_
    rw [tw_s73 hp]
    refine e_return dX4_varies_122 rfl (Nat.zero_le _) (Nat.zero_le _) ?_
    rw [tAB_B, tAB_A]
    have eI : insV v (m, f) = (m + 1, insF f p v) := by
      unfold insV
      rw [show posV (m, f).2 v (m, f).1 = p from hpos, if_neg (fun z => absurd z.1 (by omega))]
    rw [eI]
    refine ⟨_, _, rfl, rfl, ⟨pk_us .., fun q hq => ?_⟩, fun z hz => ?_, fun z hz => pk_un hz⟩
    · show vp_updL _ _ _ _ = (insF f p v q).toInt64
      unfold vp_updL insF shF
      have hq2 : q < m + 1 := hq
      by_cases e1 : q = p
      · subst e1; rw [if_pos rfl, if_neg (by omega), if_pos rfl]
      · rw [if_neg (by omega)]
        by_cases e2 : q < p
        · rw [if_neg (by omega), if_pos e2]; exact hV q (by omega)
        · rw [if_pos (by omega), if_neg e2, if_neg e1, show 80 * i + q - 1 = 80 * i + (q - 1) by omega]; exact hV (q - 1) (by omega)
    · unfold vp_updL shF
      rw [if_neg (by omega), if_neg (by omega)]
  · refine e_aload_n dX4_varies_48 0 rfl rfl rfl ?_
    refine e_getf (v := .ref 97) dX4_varies_49 rfl fX4_152 (tw_o hp) rfl ?_
    refine e_iload_n dX4_varies_52 3 rfl rfl ?_
    refine e_iconst 1 dX4_varies_53 rfl ?_
    refine e_isubN (80 * i + p) 1 (by omega) dX4_varies_54 ?_
    refine e_lald (f := V) (j := (80 * i + p) - 1) dX4_varies_55 (tw_a72 hp) rfl (by omega) (by decide) ?_
    refine e_iload_n dX4_varies_56 2 rfl rfl ?_
    refine e_i2l dX4_varies_57 ?_
    refine e_lcmp_ne 63 dX4_varies_58 dX4_varies_59 (by decide) (fun h58 => ?_) (fun h58 => ?_)
    · refine e_bipush 80 dX4_varies_63 rfl ?_
      refine e_iload_n dX4_varies_65 1 rfl rfl ?_
      refine e_imulN 80 i dX4_varies_66 ?_
      refine e_aload_n dX4_varies_67 0 rfl rfl rfl ?_
      refine e_getf (v := .ref 98) dX4_varies_68 rfl fX4_155 (tw_o hp) rfl ?_
      refine e_iload_n dX4_varies_71 1 rfl rfl ?_
      refine e_iald (f := C) (j := i) dX4_varies_72 (tw_a73 hp) rfl (by omega) (by decide) ?_
      refine e_top (congrArg Value.int hC) ?_
      refine e_iaddN (80 * i) m dX4_varies_73 ?_
      refine e_istore dX4_varies_74 (ls_s (ls_s (ls_s (ls_1 rfl)))) (Nat.le_of_ble_eq_true rfl) ?_
      refine t_var2 (f := f) hp hi hm (p := p) hpm (m + 1) m V (by omega) (by omega) shF_0.symm ?_
      refine e_aload_n dX4_varies_104 0 rfl rfl rfl ?_
      refine e_getf (v := .ref 97) dX4_varies_105 rfl fX4_152 (tw_o hp) rfl ?_
      refine e_iload_n dX4_varies_108 3 rfl rfl ?_
      refine e_iload_n dX4_varies_109 2 rfl rfl ?_
      refine e_i2l dX4_varies_110 ?_
      refine e_last (f := (shF V (80 * i + p) (80 * i + m))) (j := 80 * i + p) dX4_varies_111 (tw_a72 hp) rfl (by omega) (by decide) ?_
      rw [tw_s72 hp]
      refine e_aload_n dX4_varies_112 0 rfl rfl rfl ?_
      refine e_getf (v := .ref 98) dX4_varies_113 rfl fX4_155 (tw_o hp) rfl ?_
      refine e_iload_n dX4_varies_116 1 rfl rfl ?_
      refine e_dup2 dX4_varies_117 rfl rfl ?_
      refine e_iald (f := C) (j := i) dX4_varies_118 (tw_a73 hp) rfl (by omega) (by decide) ?_
      refine e_top (congrArg Value.int hC) ?_
      refine e_iconst 1 dX4_varies_119 rfl ?_
      refine e_iaddN m 1 dX4_varies_120 ?_
      refine e_iast (f := C) (j := i) dX4_varies_121 (tw_a73 hp) rfl (by omega) (by decide) ?_
      rw [tw_s73 hp]
      refine e_return dX4_varies_122 rfl (Nat.zero_le _) (Nat.zero_le _) ?_
      rw [tAB_B, tAB_A]
      have eI : insV v (m, f) = (m + 1, insF f p v) := by
        unfold insV
        rw [show posV (m, f).2 v (m, f).1 = p from hpos, if_neg (fun z => h58 (by rw [show 80 * i + p - 1 = 80 * i + (p - 1) by omega, hV (p - 1) (by omega)]; exact toI64_eq.mpr z.2))]
      rw [eI]
      refine ⟨_, _, rfl, rfl, ⟨pk_us .., fun q hq => ?_⟩, fun z hz => ?_, fun z hz => pk_un hz⟩
      · show vp_updL _ _ _ _ = (insF f p v q).toInt64
        unfold vp_updL insF shF
        have hq2 : q < m + 1 := hq
        by_cases e1 : q = p
        · subst e1; rw [if_pos rfl, if_neg (by omega), if_pos rfl]
        · rw [if_neg (by omega)]
          by_cases e2 : q < p
          · rw [if_neg (by omega), if_pos e2]; exact hV q (by omega)
          · rw [if_pos (by omega), if_neg e2, if_neg e1, show 80 * i + q - 1 = 80 * i + (q - 1) by omega]; exact hV (q - 1) (by omega)
      · unfold vp_updL shF
        rw [if_neg (by omega), if_neg (by omega)]
    · refine e_return dX4_varies_62 rfl (Nat.zero_le _) (Nat.zero_le _) ?_
      have eI : insV v (m, f) = (m, f) := by
        unfold insV
        rw [if_pos]
        show 0 < posV f v m ∧ f (posV f v m - 1) = v
        rw [hpos]
        exact ⟨by omega, toI64_eq.mp (by rw [← hV (p - 1) (by omega), ← h58, show 80 * i + (p - 1) = 80 * i + p - 1 by omega])⟩
      rw [eI]
      exact ⟨V, C, rfl, rfl, ⟨hC, hV⟩, VX.rf⟩

