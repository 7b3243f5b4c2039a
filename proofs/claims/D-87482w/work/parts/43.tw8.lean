/-! ===== the twin: engines ===== -/
section
variable {cc : ByteArray} {X : Cx} {Qf : Qfun} {Qx : Qxun} {kc ks pc : Nat} {ls : List (Option Value)} {rest : List Value} {M : List ACell}
theorem e_if_leN (a : Nat) {off : Int} (tgt : Nat) (ha : a < 2147483648) (hd : decode cc pc = .ok (.ifCond .le off, 3)) (ht : (pc : Int) + off = (tgt : Int)) (kt : a = 0 → E cc X Qf Qx kc ks tgt ls rest M) (kf : ¬ a = 0 → E cc X Qf Qx kc ks (pc + 3) ls rest M) : E cc X Qf Qx kc ks pc ls (.int (nI a) :: rest) M :=
  e_if_le tgt hd ht (fun h => kt (by have := (nI_leN (a := a) (b := 0) ha (by omega)).mp h; omega)) (fun h => kf (fun z => h (by rw [z]; decide)))
theorem e_if_gtN (a : Nat) {off : Int} (tgt : Nat) (ha : a < 2147483648) (hd : decode cc pc = .ok (.ifCond .gt off, 3)) (ht : (pc : Int) + off = (tgt : Int)) (kt : 0 < a → E cc X Qf Qx kc ks tgt ls rest M) (kf : ¬ 0 < a → E cc X Qf Qx kc ks (pc + 3) ls rest M) : E cc X Qf Qx kc ks pc ls (.int (nI a) :: rest) M :=
  e_if_gt tgt hd ht (fun h => kt ((nI_ltN (a := 0) (b := a) (by omega) ha).mp h)) (fun h => kf (fun z => h ((nI_ltN (a := 0) (b := a) (by omega) ha).mpr z)))
theorem e_if_eqN (a : Nat) {off : Int} (tgt : Nat) (ha : a < 2147483648) (hd : decode cc pc = .ok (.ifCond .eq off, 3)) (ht : (pc : Int) + off = (tgt : Int)) (kt : a = 0 → E cc X Qf Qx kc ks tgt ls rest M) (kf : ¬ a = 0 → E cc X Qf Qx kc ks (pc + 3) ls rest M) : E cc X Qf Qx kc ks pc ls (.int (nI a) :: rest) M :=
  e_if_eq tgt hd ht (fun h => kt ((nI_eqN (a := a) (b := 0) ha (by omega)).mp h)) (fun h => kf (fun z => h ((nI_eqN (a := a) (b := 0) ha (by omega)).mpr z)))
theorem e_if_neN (a : Nat) {off : Int} (tgt : Nat) (ha : a < 2147483648) (hd : decode cc pc = .ok (.ifCond .ne off, 3)) (ht : (pc : Int) + off = (tgt : Int)) (kt : ¬ a = 0 → E cc X Qf Qx kc ks tgt ls rest M) (kf : a = 0 → E cc X Qf Qx kc ks (pc + 3) ls rest M) : E cc X Qf Qx kc ks pc ls (.int (nI a) :: rest) M :=
  e_if_ne tgt hd ht (fun h => kt (fun z => h ((nI_eqN (a := a) (b := 0) ha (by omega)).mpr z))) (fun h => kf ((nI_eqN (a := a) (b := 0) ha (by omega)).mp h))
end
theorem upM_upM (F : Mx) (x i v w : Nat) : upM (upM F x i v) x i w = upM F x i w := by
  funext a b; unfold upM; split <;> rfl
theorem mhC_cg {τ' τ : Tw} (h13 : τ'.2.2.1 13 = τ.2.2.1 13) (h14 : τ'.2.2.1 14 = τ.2.2.1 14) (h15 : τ'.2.2.1 15 = τ.2.2.1 15) (h16 : τ'.2.2.1 16 = τ.2.2.1 16) (e : Nat) (t : Int32) (x w k : Nat) : ∀ m, mhC τ' e t x w k m = mhC τ e t x w k m
  | 0 => rfl
  | m + 1 => by rw [mhC, mhC, mhC_cg h13 h14 h15 h16 e t x w k m, h13, h14, h15, h16]
theorem mhN_cg {τ' τ : Tw} (h12 : τ'.2.2.1 12 = τ.2.2.1 12) (h13 : τ'.2.2.1 13 = τ.2.2.1 13) (h14 : τ'.2.2.1 14 = τ.2.2.1 14) (h15 : τ'.2.2.1 15 = τ.2.2.1 15) (h16 : τ'.2.2.1 16 = τ.2.2.1 16) (h18 : τ'.1 18 = τ.1 18) (h19 : τ'.1 19 = τ.1 19) (h20 : τ'.1 20 = τ.1 20) (h21 : τ'.1 21 = τ.1 21) (e : Nat) (t : Int32) (tr : Bool) : mhN τ' e t tr = mhN τ e t tr := by
  funext x w k
  unfold mhN mhT gM
  rw [h12, h18, h19, h20, h21, mhC_cg h13 h14 h15 h16]
theorem mhN_A10 {τ : Tw} {f : Nat → Int32} {e : Nat} {t : Int32} {tr : Bool} : mhN (tA τ 10 f) e t tr = mhN τ e t tr := mhN_cg (τ' := tA τ 10 f) (τ := τ) rfl rfl rfl rfl rfl rfl rfl rfl rfl e t tr
theorem mhN_A17 {τ : Tw} {f : Nat → Int32} {e : Nat} {t : Int32} {tr : Bool} : mhN (tA τ 17 f) e t tr = mhN τ e t tr := mhN_cg (τ' := tA τ 17 f) (τ := τ) rfl rfl rfl rfl rfl rfl rfl rfl rfl e t tr
def bI (b : Bool) : Int32 := if b = true then 1 else 0
/-- the facts of an engine that its turns rest on -/
def EnF (τ : Tw) (e A W M : Nat) (rd : Nat → Nat) : Prop := e < 4 ∧ A ≤ 7 ∧ 2 ≤ A ∧ 1 ≤ W ∧ W ≤ 12 ∧ τ.2.2.1 6 e = nI A ∧ τ.2.2.1 7 e = nI W ∧ M ≤ 20 ∧ τ.2.2.1 12 e = nI M ∧ Rds W rd ∧ ∀ i, i < W → τ.2.2.1 9 (12 * e + i) = nI (rd i)
/-- the number on an axis, m wheels from the top -/
def oaN (r f : Nat → Int32) (W : Nat) : Nat → Int64
  | 0 => 0
  | m + 1 => oaN r f W m * (r (W - 1 - m)).toInt64 + (f (W - 1 - m)).toInt64
set_option maxHeartbeats 4000000 in
set_option maxRecDepth 100000 in
/-- WheelTablesModel.cell -/
theorem t_cell {M : List ACell} (e x w : Nat) : Ct yX4_cell (ws_ yX4_cell cX4_cell 3 (some .int)) 0 0 0 [.int (nI e), .int (nI x), .int (nI w)] M (Q1 (some (.int (nI (12 * (7 * e + x) + w)))) M) noX := by
  refine Ct.of (ini := false) (ls := [some (.int (nI e)), some (.int (nI x)), some (.int (nI w))]) (by decide) (Nat.le_of_ble_eq_true rfl) (fun h => by cases h) rfl ?_
  refine e_bipush 12 dX4_cell_0 rfl ?_
  refine e_bipush 7 dX4_cell_2 rfl ?_
  refine e_iload_n dX4_cell_4 0 rfl rfl ?_
  refine e_imulN 7 e dX4_cell_5 ?_
  refine e_iload_n dX4_cell_6 1 rfl rfl ?_
  refine e_iaddN (7 * e) x dX4_cell_7 ?_
  refine e_imulN 12 ((7 * e) + x) dX4_cell_8 ?_
  refine e_iload_n dX4_cell_9 2 rfl rfl ?_
  refine e_iaddN (12 * ((7 * e) + x)) w dX4_cell_10 ?_
  refine e_ireturn dX4_cell_11 rfl rfl (Nat.zero_le _) (Nat.zero_le _) ?_
  exact ⟨rfl, rfl⟩

set_option maxHeartbeats 4000000 in
set_option maxRecDepth 100000 in
/-- WheelTablesModel.numberOf -/
theorem t_numberOf {pre post : List ACell} {τ : Tw} (hp : pre.length = 56) (t k : Nat) (ht : t < 4) (hk : k < 60) : Ct yX4_numberOf (ws_ yX4_numberOf cX4_numberOf 3 (some .long)) 0 0 0 [.ref 56, .int (nI t), .int (nI k)] (TW pre τ post) (Q1 (some (.long (τ.2.2.2 4 (60 * t + k)))) (TW pre τ post)) noX := by
  refine Ct.of (ini := false) (ls := [some (.ref 56), some (.int (nI t)), some (.int (nI k))]) (by decide) (Nat.le_of_ble_eq_true rfl) (fun h => by cases h) rfl ?_
  refine e_aload_n dX4_numberOf_0 0 rfl rfl rfl ?_
  refine e_getf (v := .ref 59) dX4_numberOf_1 rfl fX4_16 (tw_o hp) rfl ?_
  refine e_bipush 60 dX4_numberOf_4 rfl ?_
  refine e_iload_n dX4_numberOf_6 1 rfl rfl ?_
  refine e_imulN 60 t dX4_numberOf_7 ?_
  refine e_iload_n dX4_numberOf_8 2 rfl rfl ?_
  refine e_iaddN (60 * t) k dX4_numberOf_9 ?_
  refine e_lald (f := τ.2.2.2 4) (j := (60 * t) + k) dX4_numberOf_10 (tw_a4 hp) rfl (by omega) (by decide) ?_
  refine e_lreturn dX4_numberOf_11 rfl (Nat.zero_le _) (Nat.zero_le _) ?_
  exact ⟨rfl, rfl⟩

set_option maxHeartbeats 4000000 in
set_option maxRecDepth 100000 in
/-- WheelTablesModel.mishapped -/
theorem t_mhT {pre post : List ACell} {τ : Tw} (hp : pre.length = 56) {e x w k : Nat} (t : Int32) : Ct yX4_mishapped (ws_ yX4_mishapped cX4_mishapped 9 (some .int)) 0 0 0 [.ref 56, .int (nI e), .int t, .int (nI x), .int (nI w), .int (nI k), .int 1] (TW pre τ post) (Q1 (some (.int (nI (mhT τ t x w k)))) (TW pre τ post)) noX := by
  refine Ct.of (ini := false) (ls := [some (.ref 56), some (.int (nI e)), some (.int t), some (.int (nI x)), some (.int (nI w)), some (.int (nI k)), some (.int 1), none, none]) (by decide) (Nat.le_of_ble_eq_true rfl) (fun h => by cases h) rfl ?_
  refine e_iload dX4_mishapped_0 rfl ?_
  refine e_if_eq_f (by decide) 45 dX4_mishapped_2 (by decide) ?_
  refine e_aload_n dX4_mishapped_5 0 rfl rfl rfl ?_
  refine e_getf (v := .int (τ.1 18)) dX4_mishapped_6 rfl fX4_57 (tw_o hp) rfl ?_
  refine e_iload_n dX4_mishapped_9 2 rfl rfl ?_
  refine e_icmp_ne 43 dX4_mishapped_10 (by decide) (fun h10 => ?_) (fun h10 => ?_)
  · refine e_iconst 0 dX4_mishapped_43 rfl ?_
    refine e_ireturn dX4_mishapped_44 rfl rfl (Nat.zero_le _) (Nat.zero_le _) ?_
    refine ⟨?_, rfl⟩
    rw [mhT, if_neg (fun z => h10 z.1)]; rfl
  · refine e_aload_n dX4_mishapped_13 0 rfl rfl rfl ?_
    refine e_getf (v := .int (τ.1 19)) dX4_mishapped_14 rfl fX4_290 (tw_o hp) rfl ?_
    refine e_iload_n dX4_mishapped_17 3 rfl rfl ?_
    refine e_icmp_ne 43 dX4_mishapped_18 (by decide) (fun h18 => ?_) (fun h18 => ?_)
    · refine e_iconst 0 dX4_mishapped_43 rfl ?_
      refine e_ireturn dX4_mishapped_44 rfl rfl (Nat.zero_le _) (Nat.zero_le _) ?_
      refine ⟨?_, rfl⟩
      rw [mhT, if_neg (fun z => h18 z.2.1)]; rfl
    · refine e_aload_n dX4_mishapped_21 0 rfl rfl rfl ?_
      refine e_getf (v := .int (τ.1 20)) dX4_mishapped_22 rfl fX4_293 (tw_o hp) rfl ?_
      refine e_iload dX4_mishapped_25 rfl ?_
      refine e_icmp_ne 43 dX4_mishapped_27 (by decide) (fun h27 => ?_) (fun h27 => ?_)
      · refine e_iconst 0 dX4_mishapped_43 rfl ?_
        refine e_ireturn dX4_mishapped_44 rfl rfl (Nat.zero_le _) (Nat.zero_le _) ?_
        refine ⟨?_, rfl⟩
        rw [mhT, if_neg (fun z => h27 z.2.2.1)]; rfl
      · refine e_aload_n dX4_mishapped_30 0 rfl rfl rfl ?_
        refine e_getf (v := .int (τ.1 21)) dX4_mishapped_31 rfl fX4_296 (tw_o hp) rfl ?_
        refine e_iload dX4_mishapped_34 rfl ?_
        refine e_icmp_ne 43 dX4_mishapped_36 (by decide) (fun h36 => ?_) (fun h36 => ?_)
        · refine e_iconst 0 dX4_mishapped_43 rfl ?_
          refine e_ireturn dX4_mishapped_44 rfl rfl (Nat.zero_le _) (Nat.zero_le _) ?_
          refine ⟨?_, rfl⟩
          rw [mhT, if_neg (fun z => h36 z.2.2.2)]; rfl
        · refine e_iconst 1 dX4_mishapped_39 rfl ?_
          refine e_goto 44 dX4_mishapped_40 (by decide) ?_
          refine e_ireturn dX4_mishapped_44 rfl rfl (Nat.zero_le _) (Nat.zero_le _) ?_
          refine ⟨?_, rfl⟩
          rw [mhT, if_pos ⟨h10, h18, h27, h36⟩]; rfl

set_option maxHeartbeats 4000000 in
set_option maxRecDepth 100000 in
/-- a loop of mishapped -/
theorem t_mhC_loop {pre post : List ACell} {τ : Tw} (hp : pre.length = 56) {e A W M x w k : Nat} {rd : Nat → Nat} {t : Int32} (hN : EnF τ e A W M rd) {Q : Qfun} : ∀ (fuel : Nat) (m : Nat) (c : Nat), m ≤ M → M < m + fuel → c = mhC τ e t x w k m → Q (some (.int (nI (mhC τ e t x w k M)))) (TW pre τ post) →
    E cX4_mishapped (RX4, (some .int), 9, 0, (0, 0), false, []) Q noX 0 0 54 [some (.ref 56), some (.int (nI e)), some (.int t), some (.int (nI x)), some (.int (nI w)), some (.int (nI k)), some (.int 0), some (.int (nI c)), some (.int (nI (20 * e + m)))] [] (TW pre τ post) := by
  intro fuel
  induction fuel with
  | zero => intro m c hm hf hc hQ; exact absurd hf (by omega)
  | succ fuel ih =>
    intro m c hm hf hc hQ
    obtain ⟨he, hA, hA2, hW1, hW, eA, eW, hM, eM, hrd, hr⟩ := id hN
    have hcl := mhC_le τ e t x w k m
    refine e_iload dX4_mishapped_54 rfl ?_
    refine e_bipush 20 dX4_mishapped_56 rfl ?_
    refine e_iload_n dX4_mishapped_58 1 rfl rfl ?_
    refine e_imulN 20 e dX4_mishapped_59 ?_
    refine e_aload_n dX4_mishapped_60 0 rfl rfl rfl ?_
    refine e_getf (v := .ref 66) dX4_mishapped_61 rfl fX4_38 (tw_o hp) rfl ?_
    refine e_iload_n dX4_mishapped_64 1 rfl rfl ?_
    refine e_iald (f := τ.2.2.1 12) (j := e) dX4_mishapped_65 (tw_a12 hp) rfl (by omega) (by decide) ?_
    refine e_top (congrArg Value.int eM) ?_
    refine e_iaddN (20 * e) M dX4_mishapped_66 ?_
    refine e_icmp_geN (20 * e + m) ((20 * e) + M) 132 (by omega) (by omega) dX4_mishapped_67 (by decide) (fun h67 => ?_) (fun h67 => ?_)
    · refine e_iload dX4_mishapped_132 rfl ?_
      refine e_ireturn dX4_mishapped_134 rfl rfl (Nat.zero_le _) (Nat.zero_le _) ?_
      have e1 : m = M := by omega
      subst e1
      rw [hc]; exact hQ
    · refine e_iload dX4_mishapped_70 rfl ?_
      refine e_aload_n dX4_mishapped_72 0 rfl rfl rfl ?_
      refine e_getf (v := .ref 67) dX4_mishapped_73 rfl fX4_41 (tw_o hp) rfl ?_
      refine e_iload dX4_mishapped_76 rfl ?_
      refine e_iald (f := τ.2.2.1 13) (j := 20 * e + m) dX4_mishapped_78 (tw_a13 hp) rfl (by omega) (by decide) ?_
      refine e_iload_n dX4_mishapped_79 2 rfl rfl ?_
      refine e_icmp_ne 122 dX4_mishapped_80 (by decide) (fun h80 => ?_) (fun h80 => ?_)
      · refine e_iconst 0 dX4_mishapped_122 rfl ?_
        refine e_iaddN c 0 dX4_mishapped_123 ?_
        refine e_istore dX4_mishapped_124 (ls_s (ls_s (ls_s (ls_s (ls_s (ls_s (ls_1 rfl))))))) (Nat.le_of_ble_eq_true rfl) ?_
        refine e_incN (20 * e + m) (20 * e + m + 1) (inc1 _) dX4_mishapped_126 rfl (ls_s (ls_s (ls_s (ls_s (ls_s (ls_s (ls_s (ls_1 rfl)))))))) (Nat.le_of_ble_eq_true rfl) ?_
        refine e_goto 54 dX4_mishapped_129 (by decide) ?_
        exact ih (m + 1) _ (by omega) (by omega) (by rw [hc, mhC, if_neg (fun z => h80 z.1)]) hQ
      · refine e_aload_n dX4_mishapped_83 0 rfl rfl rfl ?_
        refine e_getf (v := .ref 68) dX4_mishapped_84 rfl fX4_44 (tw_o hp) rfl ?_
        refine e_iload dX4_mishapped_87 rfl ?_
        refine e_iald (f := τ.2.2.1 14) (j := 20 * e + m) dX4_mishapped_89 (tw_a14 hp) rfl (by omega) (by decide) ?_
        refine e_iload_n dX4_mishapped_90 3 rfl rfl ?_
        refine e_icmp_ne 122 dX4_mishapped_91 (by decide) (fun h91 => ?_) (fun h91 => ?_)
        · refine e_iconst 0 dX4_mishapped_122 rfl ?_
          refine e_iaddN c 0 dX4_mishapped_123 ?_
          refine e_istore dX4_mishapped_124 (ls_s (ls_s (ls_s (ls_s (ls_s (ls_s (ls_1 rfl))))))) (Nat.le_of_ble_eq_true rfl) ?_
          refine e_incN (20 * e + m) (20 * e + m + 1) (inc1 _) dX4_mishapped_126 rfl (ls_s (ls_s (ls_s (ls_s (ls_s (ls_s (ls_s (ls_1 rfl)))))))) (Nat.le_of_ble_eq_true rfl) ?_
          refine e_goto 54 dX4_mishapped_129 (by decide) ?_
          exact ih (m + 1) _ (by omega) (by omega) (by rw [hc, mhC, if_neg (fun z => h91 z.2.1)]) hQ
        · refine e_aload_n dX4_mishapped_94 0 rfl rfl rfl ?_
          refine e_getf (v := .ref 69) dX4_mishapped_95 rfl fX4_47 (tw_o hp) rfl ?_
          refine e_iload dX4_mishapped_98 rfl ?_
          refine e_iald (f := τ.2.2.1 15) (j := 20 * e + m) dX4_mishapped_100 (tw_a15 hp) rfl (by omega) (by decide) ?_
          refine e_iload dX4_mishapped_101 rfl ?_
          refine e_icmp_ne 122 dX4_mishapped_103 (by decide) (fun h103 => ?_) (fun h103 => ?_)
          · refine e_iconst 0 dX4_mishapped_122 rfl ?_
            refine e_iaddN c 0 dX4_mishapped_123 ?_
            refine e_istore dX4_mishapped_124 (ls_s (ls_s (ls_s (ls_s (ls_s (ls_s (ls_1 rfl))))))) (Nat.le_of_ble_eq_true rfl) ?_
            refine e_incN (20 * e + m) (20 * e + m + 1) (inc1 _) dX4_mishapped_126 rfl (ls_s (ls_s (ls_s (ls_s (ls_s (ls_s (ls_s (ls_1 rfl)))))))) (Nat.le_of_ble_eq_true rfl) ?_
            refine e_goto 54 dX4_mishapped_129 (by decide) ?_
            exact ih (m + 1) _ (by omega) (by omega) (by rw [hc, mhC, if_neg (fun z => h103 z.2.2.1)]) hQ
          · refine e_aload_n dX4_mishapped_106 0 rfl rfl rfl ?_
            refine e_getf (v := .ref 70) dX4_mishapped_107 rfl fX4_50 (tw_o hp) rfl ?_
            refine e_iload dX4_mishapped_110 rfl ?_
            refine e_iald (f := τ.2.2.1 16) (j := 20 * e + m) dX4_mishapped_112 (tw_a16 hp) rfl (by omega) (by decide) ?_
            refine e_iload dX4_mishapped_113 rfl ?_
            refine e_icmp_ne 122 dX4_mishapped_115 (by decide) (fun h115 => ?_) (fun h115 => ?_)
            · refine e_iconst 0 dX4_mishapped_122 rfl ?_
              refine e_iaddN c 0 dX4_mishapped_123 ?_
              refine e_istore dX4_mishapped_124 (ls_s (ls_s (ls_s (ls_s (ls_s (ls_s (ls_1 rfl))))))) (Nat.le_of_ble_eq_true rfl) ?_
              refine e_incN (20 * e + m) (20 * e + m + 1) (inc1 _) dX4_mishapped_126 rfl (ls_s (ls_s (ls_s (ls_s (ls_s (ls_s (ls_s (ls_1 rfl)))))))) (Nat.le_of_ble_eq_true rfl) ?_
              refine e_goto 54 dX4_mishapped_129 (by decide) ?_
              exact ih (m + 1) _ (by omega) (by omega) (by rw [hc, mhC, if_neg (fun z => h115 z.2.2.2)]) hQ
            · refine e_iconst 1 dX4_mishapped_118 rfl ?_
              refine e_goto 123 dX4_mishapped_119 (by decide) ?_
              refine e_iaddN c 1 dX4_mishapped_123 ?_
              refine e_istore dX4_mishapped_124 (ls_s (ls_s (ls_s (ls_s (ls_s (ls_s (ls_1 rfl))))))) (Nat.le_of_ble_eq_true rfl) ?_
              refine e_incN (20 * e + m) (20 * e + m + 1) (inc1 _) dX4_mishapped_126 rfl (ls_s (ls_s (ls_s (ls_s (ls_s (ls_s (ls_s (ls_1 rfl)))))))) (Nat.le_of_ble_eq_true rfl) ?_
              refine e_goto 54 dX4_mishapped_129 (by decide) ?_
              exact ih (m + 1) _ (by omega) (by omega) (by rw [hc, mhC, if_pos ⟨h80, h91, h103, h115⟩]) hQ

set_option maxHeartbeats 4000000 in
set_option maxRecDepth 100000 in
/-- WheelTablesModel.mishapped -/
theorem t_mhC {pre post : List ACell} {τ : Tw} (hp : pre.length = 56) {e A W M x w k : Nat} {rd : Nat → Nat} (t : Int32) (hN : EnF τ e A W M rd) : Ct yX4_mishapped (ws_ yX4_mishapped cX4_mishapped 9 (some .int)) 0 0 0 [.ref 56, .int (nI e), .int t, .int (nI x), .int (nI w), .int (nI k), .int 0] (TW pre τ post) (Q1 (some (.int (nI (mhC τ e t x w k M)))) (TW pre τ post)) noX := by
  obtain ⟨he, hA, hA2, hW1, hW, eA, eW, hM, eM, hrd, hr⟩ := id hN
  refine Ct.of (ini := false) (ls := [some (.ref 56), some (.int (nI e)), some (.int t), some (.int (nI x)), some (.int (nI w)), some (.int (nI k)), some (.int 0), none, none]) (by decide) (Nat.le_of_ble_eq_true rfl) (fun h => by cases h) rfl ?_
  refine e_iload dX4_mishapped_0 rfl ?_
  refine e_if_eq_t 45 (by decide) dX4_mishapped_2 (by decide) ?_
  refine e_iconst 0 dX4_mishapped_45 rfl ?_
  refine e_istore dX4_mishapped_46 (ls_s (ls_s (ls_s (ls_s (ls_s (ls_s (ls_1 rfl))))))) (Nat.le_of_ble_eq_true rfl) ?_
  refine e_bipush 20 dX4_mishapped_48 rfl ?_
  refine e_iload_n dX4_mishapped_50 1 rfl rfl ?_
  refine e_imulN 20 e dX4_mishapped_51 ?_
  refine e_istore dX4_mishapped_52 (ls_s (ls_s (ls_s (ls_s (ls_s (ls_s (ls_s (ls_1 rfl)))))))) (Nat.le_of_ble_eq_true rfl) ?_
  exact t_mhC_loop hp hN (M + 1) 0 0 (by omega) (by omega) rfl ⟨rfl, rfl⟩

theorem t_mish {pre post : List ACell} {τ : Tw} (hp : pre.length = 56) {e A W M x w k : Nat} {rd : Nat → Nat} (t : Int32) (tr : Bool) (hN : EnF τ e A W M rd) {cnt : Nat → Nat → Nat → Nat} (hcn : mhN τ e t tr = cnt) : Ct yX4_mishapped (ws_ yX4_mishapped cX4_mishapped 9 (some .int)) 0 0 0 [.ref 56, .int (nI e), .int t, .int (nI x), .int (nI w), .int (nI k), .int (bI tr)] (TW pre τ post) (Q1 (some (.int (nI (cnt x w k)))) (TW pre τ post)) noX := by
  subst hcn
  cases tr with
  | true => exact t_mhT hp t
  | false =>
    obtain ⟨he, hA, hA2, hW1, hW, eA, eW, hM, eM, hrd, hr⟩ := id hN
    have e1 : gM τ e = M := by rw [gM, eM, ix_nI (by omega)]
    show Ct _ _ _ _ _ _ _ (Q1 (some (.int (nI (mhC τ e t x w k (gM τ e))))) _) _
    rw [e1]
    exact t_mhC hp t hN
set_option maxHeartbeats 4000000 in
set_option maxRecDepth 100000 in
/-- a loop of onAxis -/
theorem t_onAxis_loop {pre post : List ACell} {τ : Tw} (hp : pre.length = 56) {e x A W M : Nat} {rd : Nat → Nat} (hN : EnF τ e A W M rd) (hx : x < A) {Q : Qfun} : ∀ (fuel : Nat) (m : Nat) (v : Int64) (y : Int32), m ≤ W → W < m + fuel → v = oaN (fun i => τ.2.2.1 9 (12 * e + i)) (fun i => τ.2.2.1 10 (12 * (7 * e + x) + i)) W m → (m = W ∧ y = -1) ∨ (m < W ∧ y = nI (W - 1 - m)) → Q (some (.long (oaN (fun i => τ.2.2.1 9 (12 * e + i)) (fun i => τ.2.2.1 10 (12 * (7 * e + x) + i)) W W))) (TW pre τ post) →
    E cX4_onAxis (RX4, (some .long), 6, 1, (0, 0), false, []) Q noX 0 0 12 [some (.ref 56), some (.int (nI e)), some (.int (nI x)), some (.long v), none, some (.int y)] [] (TW pre τ post) := by
  intro fuel
  induction fuel with
  | zero => intro m v y hm hf hv hy hQ; exact absurd hf (by omega)
  | succ fuel ih =>
    intro m v y hm hf hv hy hQ
    obtain ⟨he, hA, hA2, hW1, hW, eA, eW, hM, eM, hrd, hr⟩ := id hN
    refine e_iload dX4_onAxis_12 rfl ?_
    refine e_if_lt 53 dX4_onAxis_14 (by decide) (fun h14 => ?_) (fun h14 => ?_)
    · refine e_lload_n dX4_onAxis_53 3 rfl rfl ?_
      refine e_lreturn dX4_onAxis_54 rfl (Nat.zero_le _) (Nat.zero_le _) ?_
      have e1 : m = W := by
        rcases hy with ⟨e1, -⟩ | ⟨e1, e2⟩
        · exact e1
        · rw [e2] at h14; exact absurd h14 (nI_pos (by omega))
      subst e1
      rw [hv]; exact hQ
    · obtain ⟨i, hi, hmW, rfl, ei⟩ : ∃ i, i < W ∧ m < W ∧ y = nI i ∧ i = W - 1 - m := by
        rcases hy with ⟨e1, e2⟩ | ⟨e1, e2⟩
        · rw [e2] at h14; exact absurd (show (-1 : Int32) < 0 by decide) h14
        · exact ⟨_, by omega, e1, e2, rfl⟩
      refine e_lload_n dX4_onAxis_17 3 rfl rfl ?_
      refine e_aload_n dX4_onAxis_18 0 rfl rfl rfl ?_
      refine e_getf (v := .ref 63) dX4_onAxis_19 rfl fX4_29 (tw_o hp) rfl ?_
      refine e_bipush 12 dX4_onAxis_22 rfl ?_
      refine e_iload_n dX4_onAxis_24 1 rfl rfl ?_
      refine e_imulN 12 e dX4_onAxis_25 ?_
      refine e_iload dX4_onAxis_26 rfl ?_
      refine e_iaddN (12 * e) i dX4_onAxis_28 ?_
      refine e_iald (f := τ.2.2.1 9) (j := (12 * e) + i) dX4_onAxis_29 (tw_a9 hp) rfl (by omega) (by decide) ?_
      refine e_i2l dX4_onAxis_30 ?_
      refine e_lmul dX4_onAxis_31 ?_
      refine e_aload_n dX4_onAxis_32 0 rfl rfl rfl ?_
      refine e_getf (v := .ref 64) dX4_onAxis_33 rfl fX4_32 (tw_o hp) rfl ?_
      refine e_iload_n dX4_onAxis_36 1 rfl rfl ?_
      refine e_iload_n dX4_onAxis_37 2 rfl rfl ?_
      refine e_iload dX4_onAxis_38 rfl ?_
      refine e_callS1 (As := [.int (nI e), .int (nI x), .int (nI i)]) (rest := [.ref 64, .long (v * ((τ.2.2.1 9 ((12 * e) + i)).toInt64))]) dX4_onAxis_40 rfl msX4_263 (t_cell e x i) (Nat.le_of_ble_eq_true rfl) rfl rfl (Nat.le_of_ble_eq_true rfl) (Nat.zero_le _) (Nat.zero_le _) ?_
      refine e_iald (f := τ.2.2.1 10) (j := 12 * (7 * e + x) + i) dX4_onAxis_43 (tw_a10 hp) rfl (by omega) (by decide) ?_
      refine e_i2l dX4_onAxis_44 ?_
      refine e_ladd dX4_onAxis_45 ?_
      refine e_lstore_n dX4_onAxis_46 3 rfl (ls_s (ls_s (ls_1 rfl))) (ln_s (ln_s (ln_s (ln_s ln_0)))) (Nat.le_of_ble_eq_true rfl) ?_
      refine e_iinc ((nI i) + (-1)) dX4_onAxis_47 rfl rfl (ls_s (ls_s (ls_s (ls_s (ls_1 rfl))))) (Nat.le_of_ble_eq_true rfl) ?_
      refine e_goto 12 dX4_onAxis_50 (by decide) ?_
      refine ih (m + 1) _ _ (by omega) (by omega) (by rw [oaN, hv, ← ei]) ?_ hQ
      subst ei
      by_cases e1 : m + 1 = W
      · exact Or.inl ⟨e1, by rw [show W - 1 - m = 0 by omega]; rfl⟩
      · refine Or.inr ⟨by omega, ?_⟩
        obtain ⟨q, hq⟩ : ∃ q, W - 1 - m = q + 1 := ⟨W - 1 - m - 1, by omega⟩
        rw [hq, show W - 1 - (m + 1) = q by omega]; exact decS q

set_option maxHeartbeats 4000000 in
set_option maxRecDepth 100000 in
/-- WheelTablesModel.onAxis -/
theorem t_onAxis {pre post : List ACell} {τ : Tw} (hp : pre.length = 56) {e x A W M : Nat} {rd : Nat → Nat} (hN : EnF τ e A W M rd) (hx : x < A) : Ct yX4_onAxis (ws_ yX4_onAxis cX4_onAxis 6 (some .long)) 1 0 0 [.ref 56, .int (nI e), .int (nI x)] (TW pre τ post) (Q1 (some (.long (oaN (fun i => τ.2.2.1 9 (12 * e + i)) (fun i => τ.2.2.1 10 (12 * (7 * e + x) + i)) W W))) (TW pre τ post)) noX := by
  obtain ⟨he, hA, hA2, hW1, hW, eA, eW, hM, eM, hrd, hr⟩ := id hN
  refine Ct.of (ini := false) (ls := [some (.ref 56), some (.int (nI e)), some (.int (nI x)), none, none, none]) (by decide) (Nat.le_of_ble_eq_true rfl) (fun h => by cases h) rfl ?_
  refine e_lconst 0 dX4_onAxis_0 rfl ?_
  refine e_lstore_n dX4_onAxis_1 3 rfl (ls_s (ls_s (ls_1 rfl))) (ln_s (ln_s (ln_s (ln_s ln_0)))) (Nat.le_of_ble_eq_true rfl) ?_
  refine e_aload_n dX4_onAxis_2 0 rfl rfl rfl ?_
  refine e_getf (v := .ref 61) dX4_onAxis_3 rfl fX4_23 (tw_o hp) rfl ?_
  refine e_iload_n dX4_onAxis_6 1 rfl rfl ?_
  refine e_iald (f := τ.2.2.1 7) (j := e) dX4_onAxis_7 (tw_a7 hp) rfl (by omega) (by decide) ?_
  refine e_top (congrArg Value.int eW) ?_
  refine e_iconst 1 dX4_onAxis_8 rfl ?_
  refine e_isubN W 1 (by omega) dX4_onAxis_9 ?_
  refine e_istore dX4_onAxis_10 (ls_s (ls_s (ls_s (ls_s (ls_1 rfl))))) (Nat.le_of_ble_eq_true rfl) ?_
  exact t_onAxis_loop hp hN hx (W + 1) 0 0 _ (by omega) (by omega) rfl (Or.inr ⟨by omega, rfl⟩) ⟨rfl, rfl⟩

set_option maxHeartbeats 4000000 in
set_option maxRecDepth 100000 in
/-- a loop of adds -/
theorem t_adds1 {pre post : List ACell} {τ0 : Tw} (hp : pre.length = 56){a0 : Nat → Int32} {F : Mx} {e x A W M : Nat} {rd : Nat → Nat} {cnt : Nat → Nat → Nat → Nat} {t : Int32} {tr : Bool} (hx1 : 1 ≤ x) (hx : x < A) (hB : Bnd A W rd F) {Q : Qfun} : ∀ (fuel : Nat) (k : Nat) (τ : Tw), k ≤ W → W < k + fuel → Sx [] [] [10, 17] [] τ τ0 → EnF τ e A W M rd → mhN τ e t tr = cnt → τ.2.2.1 10 = fgUp a0 e A W (p1 rd (fun i => cnt (x - 1) i 2) x F k).1 → (∀ i, i < k → τ.2.2.1 17 i = bI ((p1 rd (fun i => cnt (x - 1) i 2) x F k).2 i)) → (∀ τ : Tw, Sx [] [] [10, 17] [] τ τ0 → EnF τ e A W M rd → mhN τ e t tr = cnt → τ.2.2.1 10 = fgUp a0 e A W (p1 rd (fun i => cnt (x - 1) i 2) x F W).1 → (∀ i, i < W → τ.2.2.1 17 i = bI ((p1 rd (fun i => cnt (x - 1) i 2) x F W).2 i)) → E cX4_adds (RX4, none, 9, 2, (0, 0), false, []) Q noX 0 0 127 [some (.ref 56), some (.int (nI e)), some (.int (nI x)), some (.int t), some (.int (bI tr)), none, none, none, none] [] (TW pre τ post)) →
    E cX4_adds (RX4, none, 9, 2, (0, 0), false, []) Q noX 0 0 3 [some (.ref 56), some (.int (nI e)), some (.int (nI x)), some (.int t), some (.int (bI tr)), some (.int (nI k)), none, none, none] [] (TW pre τ post) := by
  intro fuel
  induction fuel with
  | zero => intro k τ hk hf hS hN hcn hfig hw hE; exact absurd hf (by omega)
  | succ fuel ih =>
    intro k τ hk hf hS hN hcn hfig hw hE
    obtain ⟨he, hA, hA2, hW1, hW, eA, eW, hM, eM, hrd, hr⟩ := id hN
    have hcb : ∀ a b c, cnt a b c ≤ 20 := fun a b c => by rw [← hcn]; exact mhN_le (by rw [gM, eM, ix_nI (by omega)]; exact hM) t tr a b c
    have hB1 := p1_ok (jam := (fun i => cnt (x - 1) i 2)) (x := x) hrd hB k hk
    refine e_iload dX4_adds_3 rfl ?_
    refine e_aload_n dX4_adds_5 0 rfl rfl rfl ?_
    refine e_getf (v := .ref 61) dX4_adds_6 rfl fX4_23 (tw_o hp) rfl ?_
    refine e_iload_n dX4_adds_9 1 rfl rfl ?_
    refine e_iald (f := τ.2.2.1 7) (j := e) dX4_adds_10 (tw_a7 hp) rfl (by omega) (by decide) ?_
    refine e_top (congrArg Value.int eW) ?_
    refine e_icmp_geN k W 127 (by omega) (by omega) dX4_adds_11 (by decide) (fun h11 => ?_) (fun h11 => ?_)
    · refine e_forget (i := 5) (ln_s (ln_s (ln_s (ln_s (ln_s ln_0))))) ?_
      have e1 : k = W := by omega
      subst e1
      exact hE τ hS hN hcn hfig hw
    · refine e_aload_n dX4_adds_14 0 rfl rfl rfl ?_
      refine e_getf (v := .ref 63) dX4_adds_15 rfl fX4_29 (tw_o hp) rfl ?_
      refine e_bipush 12 dX4_adds_18 rfl ?_
      refine e_iload_n dX4_adds_20 1 rfl rfl ?_
      refine e_imulN 12 e dX4_adds_21 ?_
      refine e_iload dX4_adds_22 rfl ?_
      refine e_iaddN (12 * e) k dX4_adds_24 ?_
      refine e_iald (f := τ.2.2.1 9) (j := (12 * e) + k) dX4_adds_25 (tw_a9 hp) rfl (by omega) (by decide) ?_
      refine e_top (congrArg Value.int (hr k (by omega))) ?_
      refine e_istore dX4_adds_26 (ls_s (ls_s (ls_s (ls_s (ls_s (ls_1 rfl)))))) (Nat.le_of_ble_eq_true rfl) ?_
      have hrk := hrd k (by omega)
      have hc2 := hcb (x - 1) k 2
      have g1 := hB1 (x - 1) (by omega) k (by omega)
      have g2 := hB1 x (by omega) k (by omega)
      refine e_iload_n dX4_adds_28 1 rfl rfl ?_
      refine e_iload_n dX4_adds_29 2 rfl rfl ?_
      refine e_iconst 1 dX4_adds_30 rfl ?_
      refine e_isubN x 1 (by omega) dX4_adds_31 ?_
      refine e_iload dX4_adds_32 rfl ?_
      refine e_callS1 (As := [.int (nI e), .int (nI (x - 1)), .int (nI k)]) (rest := []) dX4_adds_34 rfl msX4_263 (t_cell e (x - 1) k) (Nat.le_of_ble_eq_true rfl) rfl rfl (Nat.le_of_ble_eq_true rfl) (Nat.zero_le _) (Nat.zero_le _) ?_
      refine e_istore dX4_adds_37 (ls_s (ls_s (ls_s (ls_s (ls_s (ls_s (ls_1 rfl))))))) (Nat.le_of_ble_eq_true rfl) ?_
      refine e_aload_n dX4_adds_39 0 rfl rfl rfl ?_
      refine e_iload_n dX4_adds_40 1 rfl rfl ?_
      refine e_iload_n dX4_adds_41 3 rfl rfl ?_
      refine e_iload_n dX4_adds_42 2 rfl rfl ?_
      refine e_iconst 1 dX4_adds_43 rfl ?_
      refine e_isubN x 1 (by omega) dX4_adds_44 ?_
      refine e_iload dX4_adds_45 rfl ?_
      refine e_iconst 2 dX4_adds_47 rfl ?_
      refine e_iload dX4_adds_48 rfl ?_
      refine e_callV1 (As := [.int (nI e), .int t, .int (nI (x - 1)), .int (nI k), .int 2, .int (bI tr)]) (rest := []) dX4_adds_50 rfl mvX4_299 (tw_o hp) rfl (t_mish hp t tr (by exact hN) (by exact hcn)) (Nat.le_of_ble_eq_true rfl) rfl rfl (Nat.le_of_ble_eq_true rfl) (Nat.zero_le _) (Nat.zero_le _) ?_
      refine e_if_leN (cnt (x - 1) k 2) 60 (by omega) dX4_adds_53 (by decide) (fun h53 => ?_) (fun h53 => ?_)
      · refine e_aload_n dX4_adds_60 0 rfl rfl rfl ?_
        refine e_getf (v := .ref 64) dX4_adds_61 rfl fX4_32 (tw_o hp) rfl ?_
        refine e_iload_n dX4_adds_64 1 rfl rfl ?_
        refine e_iload_n dX4_adds_65 2 rfl rfl ?_
        refine e_iload dX4_adds_66 rfl ?_
        refine e_callS1 (As := [.int (nI e), .int (nI x), .int (nI k)]) (rest := [.ref 64]) dX4_adds_68 rfl msX4_263 (t_cell e x k) (Nat.le_of_ble_eq_true rfl) rfl rfl (Nat.le_of_ble_eq_true rfl) (Nat.zero_le _) (Nat.zero_le _) ?_
        refine e_iald (f := τ.2.2.1 10) (j := 12 * (7 * e + x) + k) dX4_adds_71 (tw_a10 hp) rfl (by omega) (by decide) ?_
        refine e_top (congrArg Value.int ((congrFun hfig _).trans (fgUp_at hA hW (by omega) (by omega)))) ?_
        refine e_istore dX4_adds_72 (ls_s (ls_s (ls_s (ls_s (ls_s (ls_s (ls_s (ls_1 rfl)))))))) (Nat.le_of_ble_eq_true rfl) ?_
        refine e_aload_n dX4_adds_74 0 rfl rfl rfl ?_
        refine e_getf (v := .ref 71) dX4_adds_75 rfl fX4_53 (tw_o hp) rfl ?_
        refine e_iload dX4_adds_78 rfl ?_
        refine e_aload_n dX4_adds_80 0 rfl rfl rfl ?_
        refine e_getf (v := .ref 64) dX4_adds_81 rfl fX4_32 (tw_o hp) rfl ?_
        refine e_iload dX4_adds_84 rfl ?_
        refine e_iald (f := τ.2.2.1 10) (j := 12 * (7 * e + (x - 1)) + k) dX4_adds_86 (tw_a10 hp) rfl (by omega) (by decide) ?_
        refine e_top (congrArg Value.int ((congrFun hfig _).trans (fgUp_at hA hW (by omega) (by omega)))) ?_
        refine e_iload dX4_adds_87 rfl ?_
        refine e_iaddN (((p1 rd (fun i => cnt (x - 1) i 2) x F k).1) (x - 1) k) (((p1 rd (fun i => cnt (x - 1) i 2) x F k).1) x k) dX4_adds_89 ?_
        refine e_iload dX4_adds_90 rfl ?_
        refine e_icmp_ltN ((((p1 rd (fun i => cnt (x - 1) i 2) x F k).1) (x - 1) k) + (((p1 rd (fun i => cnt (x - 1) i 2) x F k).1) x k)) (rd k) 99 (by omega) (by omega) dX4_adds_92 (by decide) (fun h92 => ?_) (fun h92 => ?_)
        · refine e_iconst 0 dX4_adds_99 rfl ?_
          refine e_zast (f := τ.2.2.1 17) (j := k) dX4_adds_100 (tw_a17 hp) rfl (by omega) (by decide) ?_
          rw [tw_s17 hp]
          refine e_aload_n dX4_adds_101 0 rfl rfl rfl ?_
          refine e_getf (v := .ref 64) dX4_adds_102 rfl fX4_32 (tw_o hp) rfl ?_
          refine e_iload dX4_adds_105 rfl ?_
          refine e_aload_n dX4_adds_107 0 rfl rfl rfl ?_
          refine e_getf (v := .ref 64) dX4_adds_108 rfl fX4_32 (tw_o hp) rfl ?_
          refine e_iload dX4_adds_111 rfl ?_
          refine e_iald (f := τ.2.2.1 10) (j := 12 * (7 * e + (x - 1)) + k) dX4_adds_113 (tw_a10 hp) rfl (by omega) (by decide) ?_
          refine e_top (congrArg Value.int ((congrFun hfig _).trans (fgUp_at hA hW (by omega) (by omega)))) ?_
          refine e_iload dX4_adds_114 rfl ?_
          refine e_iaddN (((p1 rd (fun i => cnt (x - 1) i 2) x F k).1) (x - 1) k) (((p1 rd (fun i => cnt (x - 1) i 2) x F k).1) x k) dX4_adds_116 ?_
          refine e_iload dX4_adds_117 rfl ?_
          refine e_iremN ((((p1 rd (fun i => cnt (x - 1) i 2) x F k).1) (x - 1) k) + (((p1 rd (fun i => cnt (x - 1) i 2) x F k).1) x k)) (rd k) (by omega) (by omega) (by omega) dX4_adds_119 ?_
          refine e_iast (f := τ.2.2.1 10) (j := 12 * (7 * e + (x - 1)) + k) dX4_adds_120 (tw_a10 hp) rfl (by omega) (by decide) ?_
          rw [tw_s10 hp]
          refine e_incN k (k + 1) (inc1 _) dX4_adds_121 rfl (ls_s (ls_s (ls_s (ls_s (ls_1 rfl))))) (Nat.le_of_ble_eq_true rfl) ?_
          refine e_goto 3 dX4_adds_124 (by decide) ?_
          refine e_forget (i := 6) (ln_s (ln_s (ln_s (ln_s (ln_s (ln_s ln_0)))))) ?_
          refine e_forget (i := 7) (ln_s (ln_s (ln_s (ln_s (ln_s (ln_s (ln_s ln_0))))))) ?_
          refine e_forget (i := 8) (ln_s (ln_s (ln_s (ln_s (ln_s (ln_s (ln_s (ln_s ln_0)))))))) ?_
          have hb1 : (p1 rd (fun i => cnt (x - 1) i 2) x F (k + 1)).1 = upM (p1 rd (fun i => cnt (x - 1) i 2) x F k).1 (x - 1) k (((p1 rd (fun i => cnt (x - 1) i 2) x F k).1 (x - 1) k + (p1 rd (fun i => cnt (x - 1) i 2) x F k).1 x k) % rd k) := by rw [p1, if_neg (show ¬ 0 < cnt (x - 1) k 2 by omega)]
          have hb2 : (p1 rd (fun i => cnt (x - 1) i 2) x F (k + 1)).2 = upW (p1 rd (fun i => cnt (x - 1) i 2) x F k).2 k false := by
            rw [p1, if_neg (show ¬ 0 < cnt (x - 1) k 2 by omega)]
            exact congrArg (upW _ k) (decide_eq_false (by omega))
          refine ih (k + 1) _ (by omega) (by omega) ((hS.A _ (by decide)).A _ (by decide)) (by exact hN) (by first | exact hcn | (simp only [mhN_A10, mhN_A17]; exact hcn)) ?_ (fun i hi => ?_) hE
          · show upd (τ.2.2.1 10) _ _ = _
            rw [hfig, hb1]
            exact fgUp_up hA hW (by omega) (by omega)
          · show upd (τ.2.2.1 17) k _ i = _
            rw [hb2]
            by_cases ei : i = k
            · subst ei; rw [pk_us]; show _ = bI (upW _ i _ i); unfold upW; rw [if_pos rfl]; rfl
            · rw [pk_un ei]; show _ = bI (upW _ k _ i); unfold upW; rw [if_neg ei]; exact hw i (by omega)
        · refine e_iconst 1 dX4_adds_95 rfl ?_
          refine e_goto 100 dX4_adds_96 (by decide) ?_
          refine e_zast (f := τ.2.2.1 17) (j := k) dX4_adds_100 (tw_a17 hp) rfl (by omega) (by decide) ?_
          rw [tw_s17 hp]
          refine e_aload_n dX4_adds_101 0 rfl rfl rfl ?_
          refine e_getf (v := .ref 64) dX4_adds_102 rfl fX4_32 (tw_o hp) rfl ?_
          refine e_iload dX4_adds_105 rfl ?_
          refine e_aload_n dX4_adds_107 0 rfl rfl rfl ?_
          refine e_getf (v := .ref 64) dX4_adds_108 rfl fX4_32 (tw_o hp) rfl ?_
          refine e_iload dX4_adds_111 rfl ?_
          refine e_iald (f := τ.2.2.1 10) (j := 12 * (7 * e + (x - 1)) + k) dX4_adds_113 (tw_a10 hp) rfl (by omega) (by decide) ?_
          refine e_top (congrArg Value.int ((congrFun hfig _).trans (fgUp_at hA hW (by omega) (by omega)))) ?_
          refine e_iload dX4_adds_114 rfl ?_
          refine e_iaddN (((p1 rd (fun i => cnt (x - 1) i 2) x F k).1) (x - 1) k) (((p1 rd (fun i => cnt (x - 1) i 2) x F k).1) x k) dX4_adds_116 ?_
          refine e_iload dX4_adds_117 rfl ?_
          refine e_iremN ((((p1 rd (fun i => cnt (x - 1) i 2) x F k).1) (x - 1) k) + (((p1 rd (fun i => cnt (x - 1) i 2) x F k).1) x k)) (rd k) (by omega) (by omega) (by omega) dX4_adds_119 ?_
          refine e_iast (f := τ.2.2.1 10) (j := 12 * (7 * e + (x - 1)) + k) dX4_adds_120 (tw_a10 hp) rfl (by omega) (by decide) ?_
          rw [tw_s10 hp]
          refine e_incN k (k + 1) (inc1 _) dX4_adds_121 rfl (ls_s (ls_s (ls_s (ls_s (ls_1 rfl))))) (Nat.le_of_ble_eq_true rfl) ?_
          refine e_goto 3 dX4_adds_124 (by decide) ?_
          refine e_forget (i := 6) (ln_s (ln_s (ln_s (ln_s (ln_s (ln_s ln_0)))))) ?_
          refine e_forget (i := 7) (ln_s (ln_s (ln_s (ln_s (ln_s (ln_s (ln_s ln_0))))))) ?_
          refine e_forget (i := 8) (ln_s (ln_s (ln_s (ln_s (ln_s (ln_s (ln_s (ln_s ln_0)))))))) ?_
          have hb1 : (p1 rd (fun i => cnt (x - 1) i 2) x F (k + 1)).1 = upM (p1 rd (fun i => cnt (x - 1) i 2) x F k).1 (x - 1) k (((p1 rd (fun i => cnt (x - 1) i 2) x F k).1 (x - 1) k + (p1 rd (fun i => cnt (x - 1) i 2) x F k).1 x k) % rd k) := by rw [p1, if_neg (show ¬ 0 < cnt (x - 1) k 2 by omega)]
          have hb2 : (p1 rd (fun i => cnt (x - 1) i 2) x F (k + 1)).2 = upW (p1 rd (fun i => cnt (x - 1) i 2) x F k).2 k true := by
            rw [p1, if_neg (show ¬ 0 < cnt (x - 1) k 2 by omega)]
            exact congrArg (upW _ k) (decide_eq_true (by omega))
          refine ih (k + 1) _ (by omega) (by omega) ((hS.A _ (by decide)).A _ (by decide)) (by exact hN) (by first | exact hcn | (simp only [mhN_A10, mhN_A17]; exact hcn)) ?_ (fun i hi => ?_) hE
          · show upd (τ.2.2.1 10) _ _ = _
            rw [hfig, hb1]
            exact fgUp_up hA hW (by omega) (by omega)
          · show upd (τ.2.2.1 17) k _ i = _
            rw [hb2]
            by_cases ei : i = k
            · subst ei; rw [pk_us]; show _ = bI (upW _ i _ i); unfold upW; rw [if_pos rfl]; rfl
            · rw [pk_un ei]; show _ = bI (upW _ k _ i); unfold upW; rw [if_neg ei]; exact hw i (by omega)
      · refine e_iconst 0 dX4_adds_56 rfl ?_
        refine e_goto 72 dX4_adds_57 (by decide) ?_
        refine e_istore dX4_adds_72 (ls_s (ls_s (ls_s (ls_s (ls_s (ls_s (ls_s (ls_1 rfl)))))))) (Nat.le_of_ble_eq_true rfl) ?_
        refine e_aload_n dX4_adds_74 0 rfl rfl rfl ?_
        refine e_getf (v := .ref 71) dX4_adds_75 rfl fX4_53 (tw_o hp) rfl ?_
        refine e_iload dX4_adds_78 rfl ?_
        refine e_aload_n dX4_adds_80 0 rfl rfl rfl ?_
        refine e_getf (v := .ref 64) dX4_adds_81 rfl fX4_32 (tw_o hp) rfl ?_
        refine e_iload dX4_adds_84 rfl ?_
        refine e_iald (f := τ.2.2.1 10) (j := 12 * (7 * e + (x - 1)) + k) dX4_adds_86 (tw_a10 hp) rfl (by omega) (by decide) ?_
        refine e_top (congrArg Value.int ((congrFun hfig _).trans (fgUp_at hA hW (by omega) (by omega)))) ?_
        refine e_iload dX4_adds_87 rfl ?_
        refine e_iaddN (((p1 rd (fun i => cnt (x - 1) i 2) x F k).1) (x - 1) k) 0 dX4_adds_89 ?_
        refine e_iload dX4_adds_90 rfl ?_
        refine e_icmp_ltN ((((p1 rd (fun i => cnt (x - 1) i 2) x F k).1) (x - 1) k) + 0) (rd k) 99 (by omega) (by omega) dX4_adds_92 (by decide) (fun h92 => ?_) (fun h92 => ?_)
        · refine e_iconst 0 dX4_adds_99 rfl ?_
          refine e_zast (f := τ.2.2.1 17) (j := k) dX4_adds_100 (tw_a17 hp) rfl (by omega) (by decide) ?_
          rw [tw_s17 hp]
          refine e_aload_n dX4_adds_101 0 rfl rfl rfl ?_
          refine e_getf (v := .ref 64) dX4_adds_102 rfl fX4_32 (tw_o hp) rfl ?_
          refine e_iload dX4_adds_105 rfl ?_
          refine e_aload_n dX4_adds_107 0 rfl rfl rfl ?_
          refine e_getf (v := .ref 64) dX4_adds_108 rfl fX4_32 (tw_o hp) rfl ?_
          refine e_iload dX4_adds_111 rfl ?_
          refine e_iald (f := τ.2.2.1 10) (j := 12 * (7 * e + (x - 1)) + k) dX4_adds_113 (tw_a10 hp) rfl (by omega) (by decide) ?_
          refine e_top (congrArg Value.int ((congrFun hfig _).trans (fgUp_at hA hW (by omega) (by omega)))) ?_
          refine e_iload dX4_adds_114 rfl ?_
          refine e_iaddN (((p1 rd (fun i => cnt (x - 1) i 2) x F k).1) (x - 1) k) 0 dX4_adds_116 ?_
          refine e_iload dX4_adds_117 rfl ?_
          refine e_iremN ((((p1 rd (fun i => cnt (x - 1) i 2) x F k).1) (x - 1) k) + 0) (rd k) (by omega) (by omega) (by omega) dX4_adds_119 ?_
          refine e_iast (f := τ.2.2.1 10) (j := 12 * (7 * e + (x - 1)) + k) dX4_adds_120 (tw_a10 hp) rfl (by omega) (by decide) ?_
          rw [tw_s10 hp]
          refine e_incN k (k + 1) (inc1 _) dX4_adds_121 rfl (ls_s (ls_s (ls_s (ls_s (ls_1 rfl))))) (Nat.le_of_ble_eq_true rfl) ?_
          refine e_goto 3 dX4_adds_124 (by decide) ?_
          refine e_forget (i := 6) (ln_s (ln_s (ln_s (ln_s (ln_s (ln_s ln_0)))))) ?_
          refine e_forget (i := 7) (ln_s (ln_s (ln_s (ln_s (ln_s (ln_s (ln_s ln_0))))))) ?_
          refine e_forget (i := 8) (ln_s (ln_s (ln_s (ln_s (ln_s (ln_s (ln_s (ln_s ln_0)))))))) ?_
          have hb1 : (p1 rd (fun i => cnt (x - 1) i 2) x F (k + 1)).1 = upM (p1 rd (fun i => cnt (x - 1) i 2) x F k).1 (x - 1) k (((p1 rd (fun i => cnt (x - 1) i 2) x F k).1 (x - 1) k + 0) % rd k) := by rw [p1, if_pos (show 0 < cnt (x - 1) k 2 by omega)]
          have hb2 : (p1 rd (fun i => cnt (x - 1) i 2) x F (k + 1)).2 = upW (p1 rd (fun i => cnt (x - 1) i 2) x F k).2 k false := by
            rw [p1, if_pos (show 0 < cnt (x - 1) k 2 by omega)]
            exact congrArg (upW _ k) (decide_eq_false (by omega))
          refine ih (k + 1) _ (by omega) (by omega) ((hS.A _ (by decide)).A _ (by decide)) (by exact hN) (by first | exact hcn | (simp only [mhN_A10, mhN_A17]; exact hcn)) ?_ (fun i hi => ?_) hE
          · show upd (τ.2.2.1 10) _ _ = _
            rw [hfig, hb1]
            exact fgUp_up hA hW (by omega) (by omega)
          · show upd (τ.2.2.1 17) k _ i = _
            rw [hb2]
            by_cases ei : i = k
            · subst ei; rw [pk_us]; show _ = bI (upW _ i _ i); unfold upW; rw [if_pos rfl]; rfl
            · rw [pk_un ei]; show _ = bI (upW _ k _ i); unfold upW; rw [if_neg ei]; exact hw i (by omega)
        · refine e_iconst 1 dX4_adds_95 rfl ?_
          refine e_goto 100 dX4_adds_96 (by decide) ?_
          refine e_zast (f := τ.2.2.1 17) (j := k) dX4_adds_100 (tw_a17 hp) rfl (by omega) (by decide) ?_
          rw [tw_s17 hp]
          refine e_aload_n dX4_adds_101 0 rfl rfl rfl ?_
          refine e_getf (v := .ref 64) dX4_adds_102 rfl fX4_32 (tw_o hp) rfl ?_
          refine e_iload dX4_adds_105 rfl ?_
          refine e_aload_n dX4_adds_107 0 rfl rfl rfl ?_
          refine e_getf (v := .ref 64) dX4_adds_108 rfl fX4_32 (tw_o hp) rfl ?_
          refine e_iload dX4_adds_111 rfl ?_
          refine e_iald (f := τ.2.2.1 10) (j := 12 * (7 * e + (x - 1)) + k) dX4_adds_113 (tw_a10 hp) rfl (by omega) (by decide) ?_
          refine e_top (congrArg Value.int ((congrFun hfig _).trans (fgUp_at hA hW (by omega) (by omega)))) ?_
          refine e_iload dX4_adds_114 rfl ?_
          refine e_iaddN (((p1 rd (fun i => cnt (x - 1) i 2) x F k).1) (x - 1) k) 0 dX4_adds_116 ?_
          refine e_iload dX4_adds_117 rfl ?_
          refine e_iremN ((((p1 rd (fun i => cnt (x - 1) i 2) x F k).1) (x - 1) k) + 0) (rd k) (by omega) (by omega) (by omega) dX4_adds_119 ?_
          refine e_iast (f := τ.2.2.1 10) (j := 12 * (7 * e + (x - 1)) + k) dX4_adds_120 (tw_a10 hp) rfl (by omega) (by decide) ?_
          rw [tw_s10 hp]
          refine e_incN k (k + 1) (inc1 _) dX4_adds_121 rfl (ls_s (ls_s (ls_s (ls_s (ls_1 rfl))))) (Nat.le_of_ble_eq_true rfl) ?_
          refine e_goto 3 dX4_adds_124 (by decide) ?_
          refine e_forget (i := 6) (ln_s (ln_s (ln_s (ln_s (ln_s (ln_s ln_0)))))) ?_
          refine e_forget (i := 7) (ln_s (ln_s (ln_s (ln_s (ln_s (ln_s (ln_s ln_0))))))) ?_
          refine e_forget (i := 8) (ln_s (ln_s (ln_s (ln_s (ln_s (ln_s (ln_s (ln_s ln_0)))))))) ?_
          have hb1 : (p1 rd (fun i => cnt (x - 1) i 2) x F (k + 1)).1 = upM (p1 rd (fun i => cnt (x - 1) i 2) x F k).1 (x - 1) k (((p1 rd (fun i => cnt (x - 1) i 2) x F k).1 (x - 1) k + 0) % rd k) := by rw [p1, if_pos (show 0 < cnt (x - 1) k 2 by omega)]
          have hb2 : (p1 rd (fun i => cnt (x - 1) i 2) x F (k + 1)).2 = upW (p1 rd (fun i => cnt (x - 1) i 2) x F k).2 k true := by
            rw [p1, if_pos (show 0 < cnt (x - 1) k 2 by omega)]
            exact congrArg (upW _ k) (decide_eq_true (by omega))
          refine ih (k + 1) _ (by omega) (by omega) ((hS.A _ (by decide)).A _ (by decide)) (by exact hN) (by first | exact hcn | (simp only [mhN_A10, mhN_A17]; exact hcn)) ?_ (fun i hi => ?_) hE
          · show upd (τ.2.2.1 10) _ _ = _
            rw [hfig, hb1]
            exact fgUp_up hA hW (by omega) (by omega)
          · show upd (τ.2.2.1 17) k _ i = _
            rw [hb2]
            by_cases ei : i = k
            · subst ei; rw [pk_us]; show _ = bI (upW _ i _ i); unfold upW; rw [if_pos rfl]; rfl
            · rw [pk_un ei]; show _ = bI (upW _ k _ i); unfold upW; rw [if_neg ei]; exact hw i (by omega)

set_option maxHeartbeats 4000000 in
set_option maxRecDepth 100000 in
/-- a loop of adds -/
theorem t_adds2 {pre post : List ACell} {τ0 : Tw} (hp : pre.length = 56){a0 : Nat → Int32} {F : Mx} {e x A W M : Nat} {rd : Nat → Nat} {cnt : Nat → Nat → Nat → Nat} {t : Int32} {tr : Bool} (hx1 : 1 ≤ x) (hx : x < A) (hB : Bnd A W rd F) {Q : Qfun} : ∀ (fuel : Nat) (k : Nat) (τ : Tw), k + 1 ≤ W → W < k + fuel → Sx [] [] [10, 17] [] τ τ0 → EnF τ e A W M rd → mhN τ e t tr = cnt → τ.2.2.1 10 = fgUp a0 e A W (p2 rd (fun i => cnt (x - 1) i 1) x (p1 rd (fun i => cnt (x - 1) i 2) x F W) k).1 → (∀ i, i < W → τ.2.2.1 17 i = bI ((p2 rd (fun i => cnt (x - 1) i 1) x (p1 rd (fun i => cnt (x - 1) i 2) x F W) k).2 i)) → (∀ τ : Tw, Sx [] [] [10, 17] [] τ τ0 → τ.2.2.1 10 = fgUp a0 e A W (addX W rd cnt x F) → Q none (TW pre τ post)) →
    E cX4_adds (RX4, none, 9, 2, (0, 0), false, []) Q noX 0 0 130 [some (.ref 56), some (.int (nI e)), some (.int (nI x)), some (.int t), some (.int (bI tr)), some (.int (nI k)), none, none, none] [] (TW pre τ post) := by
  intro fuel
  induction fuel with
  | zero => intro k τ hk hf hS hN hcn hfig hw hQ; exact absurd hf (by omega)
  | succ fuel ih =>
    intro k τ hk hf hS hN hcn hfig hw hQ
    obtain ⟨he, hA, hA2, hW1, hW, eA, eW, hM, eM, hrd, hr⟩ := id hN
    have hcb : ∀ a b c, cnt a b c ≤ 20 := fun a b c => by rw [← hcn]; exact mhN_le (by rw [gM, eM, ix_nI (by omega)]; exact hM) t tr a b c
    have hB2 := p2_ok (stk := (fun i => cnt (x - 1) i 1)) (x := x) hrd (p1_ok (jam := (fun i => cnt (x - 1) i 2)) (x := x) hrd hB W (Nat.le_refl _)) k hk
    refine e_iload dX4_adds_130 rfl ?_
    refine e_iconst 1 dX4_adds_132 rfl ?_
    refine e_iaddN k 1 dX4_adds_133 ?_
    refine e_aload_n dX4_adds_134 0 rfl rfl rfl ?_
    refine e_getf (v := .ref 61) dX4_adds_135 rfl fX4_23 (tw_o hp) rfl ?_
    refine e_iload_n dX4_adds_138 1 rfl rfl ?_
    refine e_iald (f := τ.2.2.1 7) (j := e) dX4_adds_139 (tw_a7 hp) rfl (by omega) (by decide) ?_
    refine e_top (congrArg Value.int eW) ?_
    refine e_icmp_geN (k + 1) W 250 (by omega) (by omega) dX4_adds_140 (by decide) (fun h140 => ?_) (fun h140 => ?_)
    · refine e_return dX4_adds_250 rfl (Nat.zero_le _) (Nat.zero_le _) ?_
      have e1 : k = W - 1 := by omega
      subst e1
      exact hQ τ hS hfig
    · refine e_aload_n dX4_adds_143 0 rfl rfl rfl ?_
      refine e_getf (v := .ref 71) dX4_adds_144 rfl fX4_53 (tw_o hp) rfl ?_
      refine e_iload dX4_adds_147 rfl ?_
      refine e_zald (f := τ.2.2.1 17) (j := k) dX4_adds_149 (tw_a17 hp) rfl (by omega) (by decide) ?_
      refine e_if_eq 244 dX4_adds_150 (by decide) (fun h150 => ?_) (fun h150 => ?_)
      · have hwk : (p2 rd (fun i => cnt (x - 1) i 1) x (p1 rd (fun i => cnt (x - 1) i 2) x F W) k).2 k = false := by
          cases hh : (p2 rd (fun i => cnt (x - 1) i 1) x (p1 rd (fun i => cnt (x - 1) i 2) x F W) k).2 k with
          | false => rfl
          | true => rw [hw k (by omega), hh] at h150; exact absurd h150 (by decide)
        refine e_incN k (k + 1) (inc1 _) dX4_adds_244 rfl (ls_s (ls_s (ls_s (ls_s (ls_1 rfl))))) (Nat.le_of_ble_eq_true rfl) ?_
        refine e_goto 130 dX4_adds_247 (by decide) ?_
        
        have hb : p2 rd (fun i => cnt (x - 1) i 1) x (p1 rd (fun i => cnt (x - 1) i 2) x F W) (k + 1) = p2 rd (fun i => cnt (x - 1) i 1) x (p1 rd (fun i => cnt (x - 1) i 2) x F W) k := by rw [p2, if_neg (fun z => absurd z.1 (by rw [hwk]; decide))]
        refine ih (k + 1) _ (by omega) (by omega) hS (by exact hN) (by first | exact hcn | (simp only [mhN_A10, mhN_A17]; exact hcn)) (by rw [hb]; exact hfig) (by rw [hb]; exact hw) hQ
      · have hwk : (p2 rd (fun i => cnt (x - 1) i 1) x (p1 rd (fun i => cnt (x - 1) i 2) x F W) k).2 k = true := by
          cases hh : (p2 rd (fun i => cnt (x - 1) i 1) x (p1 rd (fun i => cnt (x - 1) i 2) x F W) k).2 k with
          | true => rfl
          | false => rw [hw k (by omega), hh] at h150; exact absurd rfl h150
        have hc2 := hcb (x - 1) (k + 1) 1
        have hrk := hrd (k + 1) (by omega)
        have g1 := hB2 (x - 1) (by omega) (k + 1) (by omega)
        refine e_aload_n dX4_adds_153 0 rfl rfl rfl ?_
        refine e_iload_n dX4_adds_154 1 rfl rfl ?_
        refine e_iload_n dX4_adds_155 3 rfl rfl ?_
        refine e_iload_n dX4_adds_156 2 rfl rfl ?_
        refine e_iconst 1 dX4_adds_157 rfl ?_
        refine e_isubN x 1 (by omega) dX4_adds_158 ?_
        refine e_iload dX4_adds_159 rfl ?_
        refine e_iconst 1 dX4_adds_161 rfl ?_
        refine e_iaddN k 1 dX4_adds_162 ?_
        refine e_iconst 1 dX4_adds_163 rfl ?_
        refine e_iload dX4_adds_164 rfl ?_
        refine e_callV1 (As := [.int (nI e), .int t, .int (nI (x - 1)), .int (nI (k + 1)), .int 1, .int (bI tr)]) (rest := []) dX4_adds_166 rfl mvX4_299 (tw_o hp) rfl (t_mish hp t tr (by exact hN) (by exact hcn)) (Nat.le_of_ble_eq_true rfl) rfl rfl (Nat.le_of_ble_eq_true rfl) (Nat.zero_le _) (Nat.zero_le _) ?_
        refine e_if_leN (cnt (x - 1) (k + 1) 1) 175 (by omega) dX4_adds_169 (by decide) (fun h169 => ?_) (fun h169 => ?_)
        · refine e_iload_n dX4_adds_175 1 rfl rfl ?_
          refine e_iload_n dX4_adds_176 2 rfl rfl ?_
          refine e_iconst 1 dX4_adds_177 rfl ?_
          refine e_isubN x 1 (by omega) dX4_adds_178 ?_
          refine e_iload dX4_adds_179 rfl ?_
          refine e_iconst 1 dX4_adds_181 rfl ?_
          refine e_iaddN k 1 dX4_adds_182 ?_
          refine e_callS1 (As := [.int (nI e), .int (nI (x - 1)), .int (nI (k + 1))]) (rest := []) dX4_adds_183 rfl msX4_263 (t_cell e (x - 1) (k + 1)) (Nat.le_of_ble_eq_true rfl) rfl rfl (Nat.le_of_ble_eq_true rfl) (Nat.zero_le _) (Nat.zero_le _) ?_
          refine e_istore dX4_adds_186 (ls_s (ls_s (ls_s (ls_s (ls_s (ls_1 rfl)))))) (Nat.le_of_ble_eq_true rfl) ?_
          refine e_aload_n dX4_adds_188 0 rfl rfl rfl ?_
          refine e_getf (v := .ref 64) dX4_adds_189 rfl fX4_32 (tw_o hp) rfl ?_
          refine e_iload dX4_adds_192 rfl ?_
          refine e_dup2 dX4_adds_194 rfl rfl ?_
          refine e_iald (f := τ.2.2.1 10) (j := 12 * (7 * e + (x - 1)) + (k + 1)) dX4_adds_195 (tw_a10 hp) rfl (by omega) (by decide) ?_
          refine e_top (congrArg Value.int ((congrFun hfig _).trans (fgUp_at hA hW (by omega) (by omega)))) ?_
          refine e_iconst 1 dX4_adds_196 rfl ?_
          refine e_iaddN (((p2 rd (fun i => cnt (x - 1) i 1) x (p1 rd (fun i => cnt (x - 1) i 2) x F W) k).1) (x - 1) (k + 1)) 1 dX4_adds_197 ?_
          refine e_iast (f := τ.2.2.1 10) (j := 12 * (7 * e + (x - 1)) + (k + 1)) dX4_adds_198 (tw_a10 hp) rfl (by omega) (by decide) ?_
          rw [tw_s10 hp]
          refine e_aload_n dX4_adds_199 0 rfl rfl rfl ?_
          refine e_getf (v := .ref 64) dX4_adds_200 rfl fX4_32 (tw_o hp) rfl ?_
          refine e_iload dX4_adds_203 rfl ?_
          refine e_iald (f := (upd (τ.2.2.1 10) (12 * (7 * e + (x - 1)) + (k + 1)) (nI ((((p2 rd (fun i => cnt (x - 1) i 1) x (p1 rd (fun i => cnt (x - 1) i 2) x F W) k).1) (x - 1) (k + 1)) + 1)))) (j := 12 * (7 * e + (x - 1)) + (k + 1)) dX4_adds_205 (tw_a10 hp) rfl (by omega) (by decide) ?_
          refine e_top (congrArg Value.int pk_us) ?_
          refine e_aload_n dX4_adds_206 0 rfl rfl rfl ?_
          refine e_getf (v := .ref 63) dX4_adds_207 rfl fX4_29 (tw_o hp) rfl ?_
          refine e_bipush 12 dX4_adds_210 rfl ?_
          refine e_iload_n dX4_adds_212 1 rfl rfl ?_
          refine e_imulN 12 e dX4_adds_213 ?_
          refine e_iload dX4_adds_214 rfl ?_
          refine e_iaddN (12 * e) k dX4_adds_216 ?_
          refine e_iconst 1 dX4_adds_217 rfl ?_
          refine e_iaddN ((12 * e) + k) 1 dX4_adds_218 ?_
          refine e_iald (f := τ.2.2.1 9) (j := ((12 * e) + k) + 1) dX4_adds_219 (tw_a9 hp) rfl (by omega) (by decide) ?_
          refine e_top (congrArg Value.int (hr (k + 1) (by omega))) ?_
          refine e_icmp_geN (((p2 rd (fun i => cnt (x - 1) i 1) x (p1 rd (fun i => cnt (x - 1) i 2) x F W) k).1 (x - 1) (k + 1)) + 1) (rd (k + 1)) 226 (by omega) (by omega) dX4_adds_220 (by decide) (fun h220 => ?_) (fun h220 => ?_)
          · refine e_aload_n dX4_adds_226 0 rfl rfl rfl ?_
            refine e_getf (v := .ref 64) dX4_adds_227 rfl fX4_32 (tw_o hp) rfl ?_
            refine e_iload dX4_adds_230 rfl ?_
            refine e_iconst 0 dX4_adds_232 rfl ?_
            refine e_iast (f := (upd (τ.2.2.1 10) (12 * (7 * e + (x - 1)) + (k + 1)) (nI ((((p2 rd (fun i => cnt (x - 1) i 1) x (p1 rd (fun i => cnt (x - 1) i 2) x F W) k).1) (x - 1) (k + 1)) + 1)))) (j := 12 * (7 * e + (x - 1)) + (k + 1)) dX4_adds_233 (tw_a10 hp) rfl (by omega) (by decide) ?_
            rw [tw_s10 hp]
            refine e_aload_n dX4_adds_234 0 rfl rfl rfl ?_
            refine e_getf (v := .ref 71) dX4_adds_235 rfl fX4_53 (tw_o hp) rfl ?_
            refine e_iload dX4_adds_238 rfl ?_
            refine e_iconst 1 dX4_adds_240 rfl ?_
            refine e_iaddN k 1 dX4_adds_241 ?_
            refine e_iconst 1 dX4_adds_242 rfl ?_
            refine e_zast (f := τ.2.2.1 17) (j := k + 1) dX4_adds_243 (tw_a17 hp) rfl (by omega) (by decide) ?_
            rw [tw_s17 hp]
            refine e_incN k (k + 1) (inc1 _) dX4_adds_244 rfl (ls_s (ls_s (ls_s (ls_s (ls_1 rfl))))) (Nat.le_of_ble_eq_true rfl) ?_
            refine e_goto 130 dX4_adds_247 (by decide) ?_
            refine e_forget (i := 6) (ln_s (ln_s (ln_s (ln_s (ln_s (ln_s ln_0)))))) ?_
            have hb : p2 rd (fun i => cnt (x - 1) i 1) x (p1 rd (fun i => cnt (x - 1) i 2) x F W) (k + 1) = (upM (p2 rd (fun i => cnt (x - 1) i 1) x (p1 rd (fun i => cnt (x - 1) i 2) x F W) k).1 (x - 1) (k + 1) 0, upW (p2 rd (fun i => cnt (x - 1) i 1) x (p1 rd (fun i => cnt (x - 1) i 2) x F W) k).2 (k + 1) true) := by rw [p2, if_pos ⟨hwk, (show ¬ 0 < cnt (x - 1) (k + 1) 1 by omega)⟩, if_neg (by omega)]
            refine ih (k + 1) _ (by omega) (by omega) (((hS.A _ (by decide)).A _ (by decide)).A _ (by decide)) (by exact hN) (by first | exact hcn | (simp only [mhN_A10, mhN_A17]; exact hcn)) ?_ (fun i hi => ?_) hQ
            · show upd (upd (τ.2.2.1 10) _ _) _ _ = _
              rw [hfig, hb, fgUp_up hA hW (by omega) (by omega)]
              refine (fgUp_up (v := 0) hA hW (by omega) (by omega)).trans ?_
              rw [upM_upM]
            · show upd (τ.2.2.1 17) (k + 1) _ i = _
              rw [hb]
              by_cases ei : i = k + 1
              · subst ei; rw [pk_us]; show _ = bI (upW _ (k + 1) _ (k + 1)); unfold upW; rw [if_pos rfl]; rfl
              · rw [pk_un ei]; show _ = bI (upW _ (k + 1) _ i); unfold upW; rw [if_neg ei]; exact hw i hi
          · refine e_goto 244 dX4_adds_223 (by decide) ?_
            refine e_incN k (k + 1) (inc1 _) dX4_adds_244 rfl (ls_s (ls_s (ls_s (ls_s (ls_1 rfl))))) (Nat.le_of_ble_eq_true rfl) ?_
            refine e_goto 130 dX4_adds_247 (by decide) ?_
            refine e_forget (i := 6) (ln_s (ln_s (ln_s (ln_s (ln_s (ln_s ln_0)))))) ?_
            have hb : p2 rd (fun i => cnt (x - 1) i 1) x (p1 rd (fun i => cnt (x - 1) i 2) x F W) (k + 1) = (upM (p2 rd (fun i => cnt (x - 1) i 1) x (p1 rd (fun i => cnt (x - 1) i 2) x F W) k).1 (x - 1) (k + 1) ((p2 rd (fun i => cnt (x - 1) i 1) x (p1 rd (fun i => cnt (x - 1) i 2) x F W) k).1 (x - 1) (k + 1) + 1), (p2 rd (fun i => cnt (x - 1) i 1) x (p1 rd (fun i => cnt (x - 1) i 2) x F W) k).2) := by rw [p2, if_pos ⟨hwk, (show ¬ 0 < cnt (x - 1) (k + 1) 1 by omega)⟩, if_pos (by omega)]
            refine ih (k + 1) _ (by omega) (by omega) (hS.A _ (by decide)) (by exact hN) (by first | exact hcn | (simp only [mhN_A10, mhN_A17]; exact hcn)) ?_ (by rw [hb]; exact hw) hQ
            show upd (τ.2.2.1 10) _ _ = _
            rw [hfig, hb]
            exact fgUp_up hA hW (by omega) (by omega)
        · refine e_goto 244 dX4_adds_172 (by decide) ?_
          refine e_incN k (k + 1) (inc1 _) dX4_adds_244 rfl (ls_s (ls_s (ls_s (ls_s (ls_1 rfl))))) (Nat.le_of_ble_eq_true rfl) ?_
          refine e_goto 130 dX4_adds_247 (by decide) ?_
          
          have hb : p2 rd (fun i => cnt (x - 1) i 1) x (p1 rd (fun i => cnt (x - 1) i 2) x F W) (k + 1) = p2 rd (fun i => cnt (x - 1) i 1) x (p1 rd (fun i => cnt (x - 1) i 2) x F W) k := by rw [p2, if_neg (fun z => z.2 (show 0 < cnt (x - 1) (k + 1) 1 by omega))]
          refine ih (k + 1) _ (by omega) (by omega) hS (by exact hN) (by first | exact hcn | (simp only [mhN_A10, mhN_A17]; exact hcn)) (by rw [hb]; exact hfig) (by rw [hb]; exact hw) hQ

