/-! ===== the component: all cards (3): jumps checked, read ===== -/
set_option maxHeartbeats 4000000 in
set_option maxRecDepth 100000 in
/-- a loop of read -/
theorem x_rd2 {ξ ξ1 : Xs} {mid dyn D : List ACell} {n m : Nat} {cs : List Cd} {rc : Option Er} (hm : mid.length = 61) {q : Nat} (hq : q = 6 ∨ q = 7) (hl : cs.length = m) (hm40x : m ≤ 40) (hC : CdS q ξ1 dyn D cs) (hY : SyQ q ξ ξ1) (hB : ∀ c ∈ cs, c.1 ≤ 7 ∧ c.2.1 ≤ 40) {Q : Qfun} {Qx : Qxun} (hX : ∀ e ξ', rc = some e → ErX e ξ' → SyQ q ξ ξ' → Qx RX1 (some 3) (XM ξ' mid (dyn ++ D))) (hQ : rc = none → Q (some (.int (nI m))) (XM ξ1 mid (dyn ++ D)))  : ∀ (fuel : Nat) (k : Nat), k ≤ m → m < k + fuel → pzCk cs fuel k = rc →
    E cX2_read (RX2, (some .int), 5, 8, (80, 360), false, []) Q Qx 80 360 88 [some (.ref 4), some (.int (nI n)), some (.ref q), some (.int (nI m)), some (.int (nI k))] [] (XM ξ1 mid (dyn ++ D)) := by
  intro fuel
  induction fuel with
  | zero => intro k hk hf2 hR; exact absurd hf2 (by omega)
  | succ fuel ih =>
    intro k hk hf2 hR
    rw [pzCk] at hR
    refine e_iload dX2_read_88 rfl ?_
    refine e_iload_n dX2_read_90 3 rfl rfl ?_
    refine e_icmp_geN k m 171 (by omega) (by omega) dX2_read_91 (by decide) (fun h91 => ?_) (fun h91 => ?_)
    · refine e_iload_n dX2_read_171 3 rfl rfl ?_
      refine e_ireturn dX2_read_172 rfl rfl (by first | (show 80 ≤ 80; omega) | (show 360 ≤ 360; omega)) (by first | (show 80 ≤ 80; omega) | (show 360 ≤ 360; omega)) ?_
      obtain rfl : k = m := by omega
      rw [List.getElem?_eq_none (by omega)] at hR
      exact hQ hR.symm
    · have hkm : k < cs.length := by omega
      obtain ⟨c, hc⟩ : ∃ c, cs[k]? = some c := ⟨cs[k], List.getElem?_eq_getElem hkm⟩
      have hcb := hB c (List.mem_of_getElem? hc)
      obtain ⟨a, v, w, p, hck, hH, hMd⟩ := hC.2 k c hc
      refine e_aload_n dX2_read_94 2 rfl rfl rfl ?_
      refine e_iload dX2_read_95 rfl ?_
      refine e_aald (f := ξ1.2.2.2.2.1 q) (j := k) dX2_read_97 (xm_rq hq) (fun _ => rfl) rfl (by omega) (by decide) ?_
      refine e_top (congrArg rfO hck) ?_
      refine e_getf (v := (.int (nI c.1))) dX2_read_98 rfl fX2_101 ((xm_d hm _).trans (hH 0 _ rfl)) rfl ?_
      refine e_bipush 7 dX2_read_101 rfl ?_
      refine e_icmp_neN c.1 7 123 (by omega) (by omega) dX2_read_103 (by decide) (fun h103 => ?_) (fun h103 => ?_)
      · refine e_aload_n dX2_read_123 2 rfl rfl rfl ?_
        refine e_iload dX2_read_124 rfl ?_
        refine e_aald (f := ξ1.2.2.2.2.1 q) (j := k) dX2_read_126 (xm_rq hq) (fun _ => rfl) rfl (by omega) (by decide) ?_
        refine e_top (congrArg rfO hck) ?_
        refine e_getf (v := (.int (nI c.1))) dX2_read_127 rfl fX2_101 ((xm_d hm _).trans (hH 0 _ rfl)) rfl ?_
        refine e_bipush 6 dX2_read_130 rfl ?_
        refine e_icmp_neN c.1 6 165 (by omega) (by omega) dX2_read_132 (by decide) (fun h132 => ?_) (fun h132 => ?_)
        · refine e_incN k (k + 1) (inc1 _) dX2_read_165 rfl (ls_s (ls_s (ls_s (ls_1 rfl)))) (Nat.le_of_ble_eq_true rfl) ?_
          refine e_goto 88 dX2_read_168 (by decide) ?_
          rw [hc] at hR
          replace hR : (if badJ cs.length k c then some (5, c.2.2.2.2.2.2.2) else pzCk cs fuel (k + 1)) = rc := hR
          rw [if_neg (fun z => z.elim (fun z => by omega) (fun z => by omega))] at hR
          exact ih (k + 1) (by omega) (by omega) hR
        · refine e_aload_n dX2_read_135 2 rfl rfl rfl ?_
          refine e_iload dX2_read_136 rfl ?_
          refine e_aald (f := ξ1.2.2.2.2.1 q) (j := k) dX2_read_138 (xm_rq hq) (fun _ => rfl) rfl (by omega) (by decide) ?_
          refine e_top (congrArg rfO hck) ?_
          refine e_getf (v := (.long v)) dX2_read_139 rfl fX2_105 ((xm_d hm _).trans (hH 0 _ rfl)) rfl ?_
          refine e_top (congrArg Value.long (hMd.2.2.2.2.2.1 (by omega)).1) ?_
          refine e_iload dX2_read_142 rfl ?_
          refine e_i2lN k (by omega) dX2_read_144 ?_
          refine e_lcmp_leN c.2.1 k 165 (by omega) (by omega) dX2_read_145 dX2_read_146 (by decide) (fun h145 => ?_) (fun h145 => ?_)
          · refine e_incN k (k + 1) (inc1 _) dX2_read_165 rfl (ls_s (ls_s (ls_s (ls_1 rfl)))) (Nat.le_of_ble_eq_true rfl) ?_
            refine e_goto 88 dX2_read_168 (by decide) ?_
            rw [hc] at hR
            replace hR : (if badJ cs.length k c then some (5, c.2.2.2.2.2.2.2) else pzCk cs fuel (k + 1)) = rc := hR
            rw [if_neg (fun z => z.elim (fun z => by omega) (fun z => by omega))] at hR
            exact ih (k + 1) (by omega) (by omega) hR
          · refine e_aload_n dX2_read_149 0 rfl rfl rfl ?_
            refine e_getf (v := (.ref 3)) dX2_read_150 rfl fX2_15 (xm_o4) rfl ?_
            refine e_iconst 5 dX2_read_153 rfl ?_
            refine e_aload_n dX2_read_154 2 rfl rfl rfl ?_
            refine e_iload dX2_read_155 rfl ?_
            refine e_aald (f := ξ1.2.2.2.2.1 q) (j := k) dX2_read_157 (xm_rq hq) (fun _ => rfl) rfl (by omega) (by decide) ?_
            refine e_top (congrArg rfO hck) ?_
            refine e_getf (v := (.int p)) dX2_read_158 rfl fX2_108 ((xm_d hm _).trans (hH 0 _ rfl)) rfl ?_
            refine e_top (congrArg Value.int (hMd.2.2.2.2.2.1 (by omega)).2.1) ?_
            refine e_callV1 (As := [.int 5, .int (nI c.2.2.2.2.2.2.2)]) (rest := []) dX2_read_161 rfl mvX2_73 (xm_o3) rfl (x_of 5 (nI c.2.2.2.2.2.2.2)) (Nat.le_of_ble_eq_true rfl) rfl rfl (Nat.le_of_ble_eq_true rfl) (by first | (show 80 ≤ 80; omega) | (show 360 ≤ 360; omega)) (by first | (show 80 ≤ 80; omega) | (show 360 ≤ 360; omega)) ?_
            refine e_athrow dX2_read_164 xm_o3 rfl ?_
            refine ex_out (fun _ h => by cases h) (by first | (show 80 ≤ 80; omega) | (show 360 ≤ 360; omega)) (by first | (show 80 ≤ 80; omega) | (show 360 ≤ 360; omega)) ?_
            rw [hc] at hR
            replace hR : (if badJ cs.length k c then some (5, c.2.2.2.2.2.2.2) else pzCk cs fuel (k + 1)) = rc := hR
            rw [if_pos (Or.inl ⟨by omega, by omega⟩)] at hR
            exact hX (5, c.2.2.2.2.2.2.2) _ hR.symm ⟨rfl, rfl⟩ (hY.tr (((((SyN.rf ξ1).p.I _ (by decide)).I _ (by decide))).q q))
      · refine e_iload dX2_read_106 rfl ?_
        refine e_i2lN k (by omega) dX2_read_108 ?_
        refine e_aload_n dX2_read_109 2 rfl rfl rfl ?_
        refine e_iload dX2_read_110 rfl ?_
        refine e_aald (f := ξ1.2.2.2.2.1 q) (j := k) dX2_read_112 (xm_rq hq) (fun _ => rfl) rfl (by omega) (by decide) ?_
        refine e_top (congrArg rfO hck) ?_
        refine e_getf (v := (.long v)) dX2_read_113 rfl fX2_105 ((xm_d hm _).trans (hH 0 _ rfl)) rfl ?_
        refine e_top (congrArg Value.long (hMd.2.2.2.2.2.1 (by omega)).1) ?_
        refine e_ladd dX2_read_116 ?_
        refine e_top (congrArg Value.long (lN_add k c.2.1)) ?_
        refine e_iload_n dX2_read_117 3 rfl rfl ?_
        refine e_i2lN m (by omega) dX2_read_118 ?_
        refine e_lcmp_gtN (k + c.2.1) m 149 (by omega) (by omega) dX2_read_119 dX2_read_120 (by decide) (fun h119 => ?_) (fun h119 => ?_)
        · refine e_aload_n dX2_read_149 0 rfl rfl rfl ?_
          refine e_getf (v := (.ref 3)) dX2_read_150 rfl fX2_15 (xm_o4) rfl ?_
          refine e_iconst 5 dX2_read_153 rfl ?_
          refine e_aload_n dX2_read_154 2 rfl rfl rfl ?_
          refine e_iload dX2_read_155 rfl ?_
          refine e_aald (f := ξ1.2.2.2.2.1 q) (j := k) dX2_read_157 (xm_rq hq) (fun _ => rfl) rfl (by omega) (by decide) ?_
          refine e_top (congrArg rfO hck) ?_
          refine e_getf (v := (.int p)) dX2_read_158 rfl fX2_108 ((xm_d hm _).trans (hH 0 _ rfl)) rfl ?_
          refine e_top (congrArg Value.int (hMd.2.2.2.2.2.1 (by omega)).2.1) ?_
          refine e_callV1 (As := [.int 5, .int (nI c.2.2.2.2.2.2.2)]) (rest := []) dX2_read_161 rfl mvX2_73 (xm_o3) rfl (x_of 5 (nI c.2.2.2.2.2.2.2)) (Nat.le_of_ble_eq_true rfl) rfl rfl (Nat.le_of_ble_eq_true rfl) (by first | (show 80 ≤ 80; omega) | (show 360 ≤ 360; omega)) (by first | (show 80 ≤ 80; omega) | (show 360 ≤ 360; omega)) ?_
          refine e_athrow dX2_read_164 xm_o3 rfl ?_
          refine ex_out (fun _ h => by cases h) (by first | (show 80 ≤ 80; omega) | (show 360 ≤ 360; omega)) (by first | (show 80 ≤ 80; omega) | (show 360 ≤ 360; omega)) ?_
          rw [hc] at hR
          replace hR : (if badJ cs.length k c then some (5, c.2.2.2.2.2.2.2) else pzCk cs fuel (k + 1)) = rc := hR
          rw [if_pos (Or.inr ⟨by omega, by omega⟩)] at hR
          exact hX (5, c.2.2.2.2.2.2.2) _ hR.symm ⟨rfl, rfl⟩ (hY.tr (((((SyN.rf ξ1).p.I _ (by decide)).I _ (by decide))).q q))
        · refine e_aload_n dX2_read_123 2 rfl rfl rfl ?_
          refine e_iload dX2_read_124 rfl ?_
          refine e_aald (f := ξ1.2.2.2.2.1 q) (j := k) dX2_read_126 (xm_rq hq) (fun _ => rfl) rfl (by omega) (by decide) ?_
          refine e_top (congrArg rfO hck) ?_
          refine e_getf (v := (.int (nI c.1))) dX2_read_127 rfl fX2_101 ((xm_d hm _).trans (hH 0 _ rfl)) rfl ?_
          refine e_bipush 6 dX2_read_130 rfl ?_
          refine e_icmp_neN c.1 6 165 (by omega) (by omega) dX2_read_132 (by decide) (fun h132 => ?_) (fun h132 => ?_)
          · refine e_incN k (k + 1) (inc1 _) dX2_read_165 rfl (ls_s (ls_s (ls_s (ls_1 rfl)))) (Nat.le_of_ble_eq_true rfl) ?_
            refine e_goto 88 dX2_read_168 (by decide) ?_
            rw [hc] at hR
            replace hR : (if badJ cs.length k c then some (5, c.2.2.2.2.2.2.2) else pzCk cs fuel (k + 1)) = rc := hR
            rw [if_neg (fun z => z.elim (fun z => by omega) (fun z => by omega))] at hR
            exact ih (k + 1) (by omega) (by omega) hR
          · exact absurd h132 (by omega)

set_option maxHeartbeats 4000000 in
set_option maxRecDepth 100000 in
/-- WheelTables$Reader.read -/
theorem x_read_ {ξ : Xs} {mid dyn : List ACell} {f : Nat → Int32} {n : Nat} (hn : n ≤ 500) (hm : mid.length = 61) {q : Nat} (hq : q = 6 ∨ q = 7) (hf : ξ.2.2.1 100 = f) : Ct yX2_read (ws_ yX2_read cX2_read 5 (some .int)) 8 80 360 [.ref 4, .int (nI n), .ref q] (XM ξ mid dyn) (fun v N => ∃ cs ξ' D, pars f n = .inr cs ∧ cs.length ≤ 40 ∧ N = XM ξ' mid (dyn ++ D) ∧ v = some (.int (nI cs.length)) ∧ CdS q ξ' dyn D cs ∧ SyQ q (xI ξ 102 (nI n)) ξ') (fun cl w N => cl = RX1 ∧ w = some 3 ∧ ∃ e ξ' X, pars f n = .inl e ∧ N = XM ξ' mid (dyn ++ X) ∧ ErX e ξ' ∧ SyQ q (xI ξ 102 (nI n)) ξ') := by
  obtain ⟨res, hres⟩ : ∃ r, pzAll f n 501 [] (tokN f n 0) = r := ⟨_, rfl⟩
  have hb0 : SyP (xI ξ 102 (nI n)) (xI (xI ξ 102 (nI n)) 105 0) := (SyN.rf _).p.I _ (by decide)
  refine Ct.of (ini := false) (ls := [some (.ref 4), some (.int (nI n)), some (.ref q), none, none]) (by decide) (Nat.le_of_ble_eq_true rfl) (fun h => by cases h) rfl ?_
  refine e_aload_n dX2_read_0 0 rfl rfl rfl ?_
  refine e_iload_n dX2_read_1 1 rfl rfl ?_
  refine e_xputI dX2_read_2 rfl pX2_19 rfl (xm_o4) (Nat.le_of_ble_eq_true rfl) (xm_f102 _) ?_
  refine e_aload_n dX2_read_5 0 rfl rfl rfl ?_
  refine e_iconst 0 dX2_read_6 rfl ?_
  refine e_xputI dX2_read_7 rfl pX2_23 rfl (xm_o4) (Nat.le_of_ble_eq_true rfl) (xm_f105 _) ?_
  refine e_iconst 0 dX2_read_10 rfl ?_
  refine e_istore_n dX2_read_11 3 rfl (ls_s (ls_s (ls_1 rfl))) (Nat.le_of_ble_eq_true rfl) ?_
  refine e_aload_n dX2_read_12 0 rfl rfl rfl ?_
  refine e_callVQ (As := []) (rest := []) dX2_read_13 rfl mvX2_85 (xm_o4) rfl (x_next (ξ := xI (xI ξ 102 (nI n)) 105 0) (f := f) hn rfl hf (p := 0) (Nat.zero_le _) rfl) (Nat.le_of_ble_eq_true rfl) rfl rfl (Nat.le_of_ble_eq_true rfl) (Nat.le_of_ble_eq_true rfl) (Nat.le_of_ble_eq_true rfl) (fun v0 M0 h0_ _ => ?_)
  obtain ⟨ξ1, rfl, rfl, hS1, hT1⟩ := h0_
  refine E_mem (M' := XM ξ1 mid (dyn ++ [])) (by rw [List.append_nil]) ?_
  refine E_widX (kc' := 2 * 0) (ks' := 9 * 0) (by decide) (by decide) ?_
  refine x_rd1 hn hm hq 501 0 [] (tokN f n 0) ξ1 [] rfl (by omega) (by omega) ((hS1.1 102 (by decide)).trans rfl) ((congrArg (fun z => z.1 100) hS1.2).trans hf) (TkG.of (Nat.zero_le _)) hT1 ⟨rfl, fun k c h => by cases h⟩ ((hb0.q q).tr (hS1.p.q q)) hres (fun e ξ' X h1 h2 h3 => ⟨rfl, rfl, e, ξ', X, by rw [pars, hres, h1]; rfl, rfl, h2, h3⟩) (fun m cs ξ2 D hl hm40 hC hY hr => ?_)
  refine e_iconst 0 dX2_read_85 rfl ?_
  refine e_istore dX2_read_86 (ls_s (ls_s (ls_s (ls_1 rfl)))) (Nat.le_of_ble_eq_true rfl) ?_
  refine x_rd2 hm hq hl hm40 hC hY (rc := pzCk cs 41 0) (fun c hc => ?_) (fun e ξ' h1 h2 h3 => ⟨rfl, rfl, e, ξ', D, by rw [pars, hres, hr]; show pzFin cs = _; rw [pzFin, h1], rfl, h2, h3⟩) (fun h1 => ⟨cs, ξ2, D, by rw [pars, hres, hr]; show pzFin cs = _; rw [pzFin, h1], by omega, rfl, by rw [hl], hC, hY⟩) 41 0 (Nat.zero_le _) (by omega) rfl
  have hb := pzAll_b 501 [] (tokN f n 0) cs (hres.trans hr) (fun c h => by cases h) c hc
  exact ⟨hb.1, hb.2.2.2.2.2.2.2⟩

