/-! ===== the component: axes added ===== -/
/-- the same but for the warned wheels and the figures -/
def Sme (η' η : En) : Prop := η'.1 = η.1 ∧ η'.2.1 = η.2.1 ∧ η'.2.2.1 = η.2.2.1 ∧ η'.2.2.2.1 = η.2.2.2.1 ∧ η'.2.2.2.2.1 = η.2.2.2.2.1 ∧ η'.2.2.2.2.2.2.1 = η.2.2.2.2.2.2.1
theorem Sme.rf (η : En) : Sme η η := ⟨rfl, rfl, rfl, rfl, rfl, rfl⟩
theorem Sme.trans {a b c : En} (h : Sme a b) (g : Sme b c) : Sme a c := ⟨h.1.trans g.1, h.2.1.trans g.2.1, h.2.2.1.trans g.2.2.1, h.2.2.2.1.trans g.2.2.2.1, h.2.2.2.2.1.trans g.2.2.2.2.1, h.2.2.2.2.2.trans g.2.2.2.2.2⟩
theorem Sme.J {η' η : En} {A W m : Nat} {rd : Nat → Nat} (h : Sme η' η) (hJ : EnJ η A W m rd) : EnJ η' A W m rd := by
  obtain ⟨s1, s2, s3, s4, s5, s6⟩ := h
  unfold EnJ
  rw [s1, s2, s4, s6]; exact hJ
theorem cE_cg {η' η : En} (h : η'.2.2.2.2.1 = η.2.2.2.2.1) (t : Int32) (x w k : Nat) : ∀ m, cE η' t x w k m = cE η t x w k m
  | 0 => rfl
  | m + 1 => by rw [cE, cE, cE_cg h t x w k m, h]
theorem Sme.c {η' η : En} (h : Sme η' η) (x w k m : Nat) : cE η' η'.2.2.1 x w k m = cE η η.2.2.1 x w k m := by
  rw [cE_cg h.2.2.2.2.1, h.2.2.1]
theorem x_hasC {pre post : List ACell} {η : En} {m : Nat} {x w c v : Nat} (hm20 : m ≤ 20) (eM : η.2.2.2.1 = nI m) (hv : cE η η.2.2.1 x w c m = v) : Ct yX5_has (ws_ yX5_has cX5_has 5 (some .boolean)) 0 0 0 [.ref pre.length, .int (nI x), .int (nI w), .int (nI c)] (EM pre η post) (QB (0 < v) (EM pre η post)) noX := hv ▸ x_has hm20 eM
theorem nF_s (η : En) (a : Nat) (f : Nat → Int32) : (nF η a f).2.2.2.2.2.2.2 a = f := va_up_self _ _ _
theorem nF_n {η : En} {a b : Nat} {f : Nat → Int32} (h : ¬ b = a) : (nF η a f).2.2.2.2.2.2.2 b = η.2.2.2.2.2.2.2 b := va_up_ne _ _ h
theorem EfM.up {η η' : En} {A W a k v : Nat} {F : Mx} (h : EfM η A W F) (hf : ∀ b, ¬ b = a → η'.2.2.2.2.2.2.2 b = η.2.2.2.2.2.2.2 b) (hk : η'.2.2.2.2.2.2.2 a k = nI v) (hv : ∀ i, ¬ i = k → η'.2.2.2.2.2.2.2 a i = η.2.2.2.2.2.2.2 a i) : EfM η' A W (upM F a k v) := by
  intro b hb i hi
  by_cases e : b = a
  · subst e
    by_cases e2 : i = k
    · subst e2; rw [upM_s]; exact hk
    · rw [upM_n (fun z => e2 z.2), hv i e2]; exact h b hb i hi
  · rw [upM_n (fun z => e z.1), hf b e]; exact h b hb i hi
theorem vpb0 : vp_nar .boolean 0 = bI false := by decide
theorem vpb1 : vp_nar .boolean 1 = bI true := by decide
set_option maxHeartbeats 4000000 in
set_option maxRecDepth 100000 in
/-- a loop of adds -/
theorem x_adds1 {pre post : List ACell} {η0 : En} {A W m : Nat} {rd : Nat → Nat} {cnt : Nat → Nat → Nat → Nat} {x : Nat} {F : Mx} (hJ0 : EnJ η0 A W m rd) (hcn : ∀ x w k, cE η0 η0.2.2.1 x w k m = cnt x w k) (hx : x + 1 < A) (hr : Rds W rd) (hB : Bnd A W rd F) {Q : Qfun} : ∀ (fuel : Nat) (k : Nat) (η : En), k ≤ W → W < k + fuel → Sme η η0 → EfM η A W (p1 rd (fun i => cnt x i 2) (x + 1) F k).1 → (∀ i, i < k → η.2.2.2.2.2.1 i = bI ((p1 rd (fun i => cnt x i 2) (x + 1) F k).2 i)) → (∀ η, Sme η η0 → EfM η A W (p1 rd (fun i => cnt x i 2) (x + 1) F W).1 → (∀ i, i < W → η.2.2.2.2.2.1 i = bI ((p1 rd (fun i => cnt x i 2) (x + 1) F W).2 i)) → E cX5_adds (RX5, none, 6, 2, (0, 0), false, []) Q noX 0 0 112 [some (.ref pre.length), some (.int (nI x)), some (.int (nI (x + 1))), some (.ref (pre.length + 9 + 2 * x)), some (.ref (pre.length + 9 + 2 * (x + 1))), none] [] (EM pre η post)) →
    E cX5_adds (RX5, none, 6, 2, (0, 0), false, []) Q noX 0 0 24 [some (.ref pre.length), some (.int (nI x)), some (.int (nI (x + 1))), some (.ref (pre.length + 9 + 2 * x)), some (.ref (pre.length + 9 + 2 * (x + 1))), some (.int (nI k))] [] (EM pre η post) := by
  intro fuel
  induction fuel with
  | zero => intro k η hk hf hS hF hw hE; exact absurd hf (by omega)
  | succ fuel ih =>
    intro k η hk hf hS hF hw hE
    have hJ : EnJ η A W m rd := hS.J hJ0
    obtain ⟨hA, hW, hA7, hW12, hm20, eM, hR⟩ := id hJ
    refine e_iload dX5_adds_24 rfl ?_
    refine e_aload_n dX5_adds_26 0 rfl rfl rfl ?_
    refine e_getf (v := (.int (nI η.2.1))) dX5_adds_27 rfl fX5_32 em_o rfl ?_
    refine e_top (congrArg (fun z => Value.int (nI z)) hW) ?_
    refine e_icmp_geN k W 112 (by omega) (by omega) dX5_adds_30 (by decide) (fun h30 => ?_) (fun h30 => ?_)
    · refine e_forget (i := 5) (ln_s (ln_s (ln_s (ln_s (ln_s ln_0))))) ?_
      obtain rfl : k = W := by omega
      exact hE η hS hF hw
    · have hb3 := p1_ok (jam := fun i => cnt x i 2) (x := x + 1) hr hB k (by omega) x (by omega) k (by omega)
      have hb4 := p1_ok (jam := fun i => cnt x i 2) (x := x + 1) hr hB k (by omega) (x + 1) (by omega) k (by omega)
      have hb5 := hr k (by omega)
      refine e_aload_n dX5_adds_33 0 rfl rfl rfl ?_
      refine e_getf (v := (.ref (pre.length + 5))) dX5_adds_34 rfl fX5_24 em_o rfl ?_
      refine e_iload dX5_adds_37 rfl ?_
      refine e_iconst 0 dX5_adds_39 rfl ?_
      refine e_zast (f := η.2.2.2.2.2.1) (j := k) dX5_adds_40 (em_w) rfl (by omega) (by omega) ?_
      rw [em_sW]
      refine e_aload_n dX5_adds_41 0 rfl rfl rfl ?_
      refine e_iload_n dX5_adds_42 1 rfl rfl ?_
      refine e_iload dX5_adds_43 rfl ?_
      refine e_iconst 2 dX5_adds_45 rfl ?_
      refine e_callVB (As := [.int (nI x), .int (nI k), .int 2]) (rest := []) dX5_adds_46 rfl mvX5_62 (em_o) rfl (x_hasC (η := (nW η (upd η.2.2.2.2.2.1 k (vp_nar .boolean 0)))) hm20 eM ((Sme.c (η := η0) (by exact hS) _ _ _ _).trans (hcn x k 2))) (Nat.le_of_ble_eq_true rfl) rfl rfl (Nat.le_of_ble_eq_true rfl) (Nat.zero_le _) (Nat.zero_le _) (fun h46 => ?_) (fun h46 => ?_)
      · refine e_if_eq_f (by decide) 55 dX5_adds_49 (by decide) ?_
        refine e_goto 106 dX5_adds_52 (by decide) ?_
        refine e_incN k (k + 1) (inc1 _) dX5_adds_106 rfl (ls_s (ls_s (ls_s (ls_s (ls_1 rfl))))) (Nat.le_of_ble_eq_true rfl) ?_
        refine e_goto 24 dX5_adds_109 (by decide) ?_
        have hb1 : (p1 rd (fun i => cnt x i 2) (x + 1) F (k + 1)).1 = upM (p1 rd (fun i => cnt x i 2) (x + 1) F k).1 x k (((p1 rd (fun i => cnt x i 2) (x + 1) F k).1 x k + (if 0 < cnt x k 2 then 0 else (p1 rd (fun i => cnt x i 2) (x + 1) F k).1 (x + 1) k)) % rd k) := rfl
        have hb2 : (p1 rd (fun i => cnt x i 2) (x + 1) F (k + 1)).2 = upW (p1 rd (fun i => cnt x i 2) (x + 1) F k).2 k (decide (rd k ≤ (p1 rd (fun i => cnt x i 2) (x + 1) F k).1 x k + (if 0 < cnt x k 2 then 0 else (p1 rd (fun i => cnt x i 2) (x + 1) F k).1 (x + 1) k))) := rfl
        refine ih (k + 1) _ (by omega) (by omega) (by exact hS) ?_ (fun i hi => ?_) hE
        · rw [if_pos h46] at hb1 hb2
          rw [hb1]
          rw [show ((p1 rd (fun i => cnt x i 2) (x + 1) F k).1 x k + 0) % rd k = (p1 rd (fun i => cnt x i 2) (x + 1) F k).1 x k from Nat.mod_eq_of_lt hb3]
          refine EfM.up hF (fun b _ => rfl) (hF x (by omega) k (by omega)) (fun i _ => rfl)
        · rw [if_pos h46] at hb2
          rw [hb2, show decide (rd k ≤ (p1 rd (fun i => cnt x i 2) (x + 1) F k).1 x k + 0) = false from decide_eq_false (by omega)]
          show upd η.2.2.2.2.2.1 k (vp_nar .boolean 0) i = _
          by_cases ei : i = k
          · subst ei; rw [pk_us, vpb0]; unfold upW; rw [if_pos rfl]
          · rw [pk_un ei]; unfold upW; rw [if_neg ei]; exact hw i (by omega)
      · refine e_if_eq_t 55 (by decide) dX5_adds_49 (by decide) ?_
        refine e_aload_n dX5_adds_55 3 rfl rfl rfl ?_
        refine e_iload dX5_adds_56 rfl ?_
        refine e_dup2 dX5_adds_58 rfl rfl ?_
        refine e_iald (f := η.2.2.2.2.2.2.2 x) (j := k) dX5_adds_59 (em_f (η := (nW η (upd η.2.2.2.2.2.1 k (vp_nar .boolean 0)))) hA hW (by omega)) rfl (by omega) (by omega) ?_
        refine e_top (congrArg Value.int (hF x (by omega) k (by omega))) ?_
        refine e_aload dX5_adds_60 rfl rfl ?_
        refine e_iload dX5_adds_62 rfl ?_
        refine e_iald (f := η.2.2.2.2.2.2.2 (x + 1)) (j := k) dX5_adds_64 (em_f (η := (nW η (upd η.2.2.2.2.2.1 k (vp_nar .boolean 0)))) hA hW (by omega)) rfl (by omega) (by omega) ?_
        refine e_top (congrArg Value.int (hF (x + 1) (by omega) k (by omega))) ?_
        refine e_iaddN (((p1 rd (fun i => cnt x i 2) (x + 1) F k).1) x k) (((p1 rd (fun i => cnt x i 2) (x + 1) F k).1) (x + 1) k) dX5_adds_65 ?_
        refine e_iast (f := η.2.2.2.2.2.2.2 x) (j := k) dX5_adds_66 (em_f (η := (nW η (upd η.2.2.2.2.2.1 k (vp_nar .boolean 0)))) hA hW (by omega)) rfl (by omega) (by omega) ?_
        rw [em_fs (η := (nW η (upd η.2.2.2.2.2.1 k (vp_nar .boolean 0)))) hA hW (by omega)]
        refine e_aload_n dX5_adds_67 3 rfl rfl rfl ?_
        refine e_iload dX5_adds_68 rfl ?_
        refine e_iald (f := (upd (η.2.2.2.2.2.2.2 x) k (nI ((((p1 rd (fun i => cnt x i 2) (x + 1) F k).1) x k) + (((p1 rd (fun i => cnt x i 2) (x + 1) F k).1) (x + 1) k))))) (j := k) dX5_adds_70 (em_fN (η := (nW η (upd η.2.2.2.2.2.1 k (vp_nar .boolean 0)))) hA hW (by omega)) rfl (by omega) (by omega) ?_
        refine e_top (congrArg Value.int pk_us) ?_
        refine e_aload_n dX5_adds_71 0 rfl rfl rfl ?_
        refine e_getf (v := (.ref (pre.length + 6))) dX5_adds_72 rfl fX5_35 em_o rfl ?_
        refine e_iload dX5_adds_75 rfl ?_
        refine e_iald (f := η.2.2.2.2.2.2.1) (j := k) dX5_adds_77 (em_rW (η := (nF (nW η (upd η.2.2.2.2.2.1 k (vp_nar .boolean 0))) x (upd (η.2.2.2.2.2.2.2 x) k (nI ((((p1 rd (fun i => cnt x i 2) (x + 1) F k).1) x k) + (((p1 rd (fun i => cnt x i 2) (x + 1) F k).1) (x + 1) k)))))) hW) rfl (by omega) (by omega) ?_
        refine e_top (congrArg Value.int (hR k (by omega))) ?_
        refine e_icmp_geN ((((p1 rd (fun i => cnt x i 2) (x + 1) F k).1) x k) + (((p1 rd (fun i => cnt x i 2) (x + 1) F k).1) (x + 1) k)) (rd k) 84 (by omega) (by omega) dX5_adds_78 (by decide) (fun h78 => ?_) (fun h78 => ?_)
        · refine e_aload_n dX5_adds_84 3 rfl rfl rfl ?_
          refine e_iload dX5_adds_85 rfl ?_
          refine e_dup2 dX5_adds_87 rfl rfl ?_
          refine e_iald (f := (upd (η.2.2.2.2.2.2.2 x) k (nI ((((p1 rd (fun i => cnt x i 2) (x + 1) F k).1) x k) + (((p1 rd (fun i => cnt x i 2) (x + 1) F k).1) (x + 1) k))))) (j := k) dX5_adds_88 (em_fN (η := (nW η (upd η.2.2.2.2.2.1 k (vp_nar .boolean 0)))) hA hW (by omega)) rfl (by omega) (by omega) ?_
          refine e_top (congrArg Value.int pk_us) ?_
          refine e_aload_n dX5_adds_89 0 rfl rfl rfl ?_
          refine e_getf (v := (.ref (pre.length + 6))) dX5_adds_90 rfl fX5_35 em_o rfl ?_
          refine e_iload dX5_adds_93 rfl ?_
          refine e_iald (f := η.2.2.2.2.2.2.1) (j := k) dX5_adds_95 (em_rW (η := (nF (nW η (upd η.2.2.2.2.2.1 k (vp_nar .boolean 0))) x (upd (η.2.2.2.2.2.2.2 x) k (nI ((((p1 rd (fun i => cnt x i 2) (x + 1) F k).1) x k) + (((p1 rd (fun i => cnt x i 2) (x + 1) F k).1) (x + 1) k)))))) hW) rfl (by omega) (by omega) ?_
          refine e_top (congrArg Value.int (hR k (by omega))) ?_
          refine e_isubN ((((p1 rd (fun i => cnt x i 2) (x + 1) F k).1) x k) + (((p1 rd (fun i => cnt x i 2) (x + 1) F k).1) (x + 1) k)) (rd k) (by omega) dX5_adds_96 ?_
          refine e_iast (f := (upd (η.2.2.2.2.2.2.2 x) k (nI ((((p1 rd (fun i => cnt x i 2) (x + 1) F k).1) x k) + (((p1 rd (fun i => cnt x i 2) (x + 1) F k).1) (x + 1) k))))) (j := k) dX5_adds_97 (em_fN (η := (nW η (upd η.2.2.2.2.2.1 k (vp_nar .boolean 0)))) hA hW (by omega)) rfl (by omega) (by omega) ?_
          rw [em_fs (η := (nF (nW η (upd η.2.2.2.2.2.1 k (vp_nar .boolean 0))) x (upd (η.2.2.2.2.2.2.2 x) k (nI ((((p1 rd (fun i => cnt x i 2) (x + 1) F k).1) x k) + (((p1 rd (fun i => cnt x i 2) (x + 1) F k).1) (x + 1) k)))))) hA hW (by omega)]
          refine e_aload_n dX5_adds_98 0 rfl rfl rfl ?_
          refine e_getf (v := (.ref (pre.length + 5))) dX5_adds_99 rfl fX5_24 em_o rfl ?_
          refine e_iload dX5_adds_102 rfl ?_
          refine e_iconst 1 dX5_adds_104 rfl ?_
          refine e_zast (f := (upd η.2.2.2.2.2.1 k (vp_nar .boolean 0))) (j := k) dX5_adds_105 (em_w) rfl (by omega) (by omega) ?_
          rw [em_sW]
          refine e_incN k (k + 1) (inc1 _) dX5_adds_106 rfl (ls_s (ls_s (ls_s (ls_s (ls_1 rfl))))) (Nat.le_of_ble_eq_true rfl) ?_
          refine e_goto 24 dX5_adds_109 (by decide) ?_
          have hb1 : (p1 rd (fun i => cnt x i 2) (x + 1) F (k + 1)).1 = upM (p1 rd (fun i => cnt x i 2) (x + 1) F k).1 x k (((p1 rd (fun i => cnt x i 2) (x + 1) F k).1 x k + (if 0 < cnt x k 2 then 0 else (p1 rd (fun i => cnt x i 2) (x + 1) F k).1 (x + 1) k)) % rd k) := rfl
          have hb2 : (p1 rd (fun i => cnt x i 2) (x + 1) F (k + 1)).2 = upW (p1 rd (fun i => cnt x i 2) (x + 1) F k).2 k (decide (rd k ≤ (p1 rd (fun i => cnt x i 2) (x + 1) F k).1 x k + (if 0 < cnt x k 2 then 0 else (p1 rd (fun i => cnt x i 2) (x + 1) F k).1 (x + 1) k))) := rfl
          refine ih (k + 1) _ (by omega) (by omega) (by exact hS) ?_ (fun i hi => ?_) hE
          · rw [if_neg h46] at hb1 hb2
            rw [hb1]
            rw [Nat.mod_eq_sub_mod h78, Nat.mod_eq_of_lt (by omega)]
            refine EfM.up hF (fun b hb => (nF_n hb).trans (nF_n hb)) ((congrFun (nF_s _ _ _) k).trans pk_us) (fun i hi => (congrFun (nF_s _ _ _) i).trans ((pk_un hi).trans (pk_un hi)))
          · rw [if_neg h46] at hb2
            rw [hb2, show decide (rd k ≤ (p1 rd (fun i => cnt x i 2) (x + 1) F k).1 x k + (p1 rd (fun i => cnt x i 2) (x + 1) F k).1 (x + 1) k) = true from decide_eq_true h78]
            show upd (upd η.2.2.2.2.2.1 k (vp_nar .boolean 0)) k (vp_nar .boolean 1) i = _
            by_cases ei : i = k
            · subst ei; rw [pk_us, vpb1]; unfold upW; rw [if_pos rfl]
            · rw [pk_un ei, pk_un ei]; unfold upW; rw [if_neg ei]; exact hw i (by omega)
        · refine e_goto 106 dX5_adds_81 (by decide) ?_
          refine e_incN k (k + 1) (inc1 _) dX5_adds_106 rfl (ls_s (ls_s (ls_s (ls_s (ls_1 rfl))))) (Nat.le_of_ble_eq_true rfl) ?_
          refine e_goto 24 dX5_adds_109 (by decide) ?_
          have hb1 : (p1 rd (fun i => cnt x i 2) (x + 1) F (k + 1)).1 = upM (p1 rd (fun i => cnt x i 2) (x + 1) F k).1 x k (((p1 rd (fun i => cnt x i 2) (x + 1) F k).1 x k + (if 0 < cnt x k 2 then 0 else (p1 rd (fun i => cnt x i 2) (x + 1) F k).1 (x + 1) k)) % rd k) := rfl
          have hb2 : (p1 rd (fun i => cnt x i 2) (x + 1) F (k + 1)).2 = upW (p1 rd (fun i => cnt x i 2) (x + 1) F k).2 k (decide (rd k ≤ (p1 rd (fun i => cnt x i 2) (x + 1) F k).1 x k + (if 0 < cnt x k 2 then 0 else (p1 rd (fun i => cnt x i 2) (x + 1) F k).1 (x + 1) k))) := rfl
          refine ih (k + 1) _ (by omega) (by omega) (by exact hS) ?_ (fun i hi => ?_) hE
          · rw [if_neg h46] at hb1 hb2
            rw [hb1]
            rw [Nat.mod_eq_of_lt (by omega)]
            refine EfM.up hF (fun b hb => nF_n hb) ((congrFun (nF_s _ _ _) k).trans pk_us) (fun i hi => (congrFun (nF_s _ _ _) i).trans (pk_un hi))
          · rw [if_neg h46] at hb2
            rw [hb2, show decide (rd k ≤ (p1 rd (fun i => cnt x i 2) (x + 1) F k).1 x k + (p1 rd (fun i => cnt x i 2) (x + 1) F k).1 (x + 1) k) = false from decide_eq_false (by omega)]
            show upd η.2.2.2.2.2.1 k (vp_nar .boolean 0) i = _
            by_cases ei : i = k
            · subst ei; rw [pk_us, vpb0]; unfold upW; rw [if_pos rfl]
            · rw [pk_un ei]; unfold upW; rw [if_neg ei]; exact hw i (by omega)

set_option maxHeartbeats 4000000 in
set_option maxRecDepth 100000 in
/-- a loop of adds -/
theorem x_adds2 {pre post : List ACell} {η0 : En} {A W m : Nat} {rd : Nat → Nat} {cnt : Nat → Nat → Nat → Nat} {x : Nat} {F : Mx} (hJ0 : EnJ η0 A W m rd) (hcn : ∀ x w k, cE η0 η0.2.2.1 x w k m = cnt x w k) (hx : x + 1 < A) (hr : Rds W rd) (hB : Bnd A W rd F) {Q : Qfun} : ∀ (fuel : Nat) (k : Nat) (η : En), k + 1 ≤ W → W < k + fuel → Sme η η0 → EfM η A W (p2 rd (fun i => cnt x i 1) (x + 1) (p1 rd (fun i => cnt x i 2) (x + 1) F W) k).1 → (∀ i, i < W → η.2.2.2.2.2.1 i = bI ((p2 rd (fun i => cnt x i 1) (x + 1) (p1 rd (fun i => cnt x i 2) (x + 1) F W) k).2 i)) → (∀ η, Sme η η0 → EfM η A W (addX W rd cnt (x + 1) F) → Q none (EM pre η post)) →
    E cX5_adds (RX5, none, 6, 2, (0, 0), false, []) Q noX 0 0 115 [some (.ref pre.length), some (.int (nI x)), some (.int (nI (x + 1))), some (.ref (pre.length + 9 + 2 * x)), some (.ref (pre.length + 9 + 2 * (x + 1))), some (.int (nI k))] [] (EM pre η post) := by
  intro fuel
  induction fuel with
  | zero => intro k η hk hf hS hF hw hE; exact absurd hf (by omega)
  | succ fuel ih =>
    intro k η hk hf hS hF hw hE
    have hJ : EnJ η A W m rd := hS.J hJ0
    obtain ⟨hA, hW, hA7, hW12, hm20, eM, hR⟩ := id hJ
    refine e_iload dX5_adds_115 rfl ?_
    refine e_iconst 1 dX5_adds_117 rfl ?_
    refine e_iaddN k 1 dX5_adds_118 ?_
    refine e_aload_n dX5_adds_119 0 rfl rfl rfl ?_
    refine e_getf (v := (.int (nI η.2.1))) dX5_adds_120 rfl fX5_32 em_o rfl ?_
    refine e_top (congrArg (fun z => Value.int (nI z)) hW) ?_
    refine e_icmp_geN (k + 1) W 206 (by omega) (by omega) dX5_adds_123 (by decide) (fun h123 => ?_) (fun h123 => ?_)
    · refine e_return dX5_adds_206 rfl (Nat.zero_le _) (Nat.zero_le _) ?_
      obtain rfl : k = W - 1 := by omega
      exact hE η hS hF
    · have hb3 := p2_ok (stk := fun i => cnt x i 1) (x := x + 1) (s := p1 rd (fun i => cnt x i 2) (x + 1) F W) hr (p1_ok (jam := fun i => cnt x i 2) (x := x + 1) hr hB W (Nat.le_refl _)) k (by omega) x (by omega) (k + 1) (by omega)
      have hb5 := hr (k + 1) (by omega)
      have hwk := hw k (by omega)
      refine e_aload_n dX5_adds_126 0 rfl rfl rfl ?_
      refine e_getf (v := (.ref (pre.length + 5))) dX5_adds_127 rfl fX5_24 em_o rfl ?_
      refine e_iload dX5_adds_130 rfl ?_
      refine e_zald (f := η.2.2.2.2.2.1) (j := k) dX5_adds_132 (em_w) rfl (by omega) (by omega) ?_
      refine e_if_eq 200 dX5_adds_133 (by decide) (fun h133 => ?_) (fun h133 => ?_)
      · refine e_incN k (k + 1) (inc1 _) dX5_adds_200 rfl (ls_s (ls_s (ls_s (ls_s (ls_1 rfl))))) (Nat.le_of_ble_eq_true rfl) ?_
        refine e_goto 115 dX5_adds_203 (by decide) ?_
        have hb : (p2 rd (fun i => cnt x i 1) (x + 1) (p1 rd (fun i => cnt x i 2) (x + 1) F W) (k + 1)) = if (p2 rd (fun i => cnt x i 1) (x + 1) (p1 rd (fun i => cnt x i 2) (x + 1) F W) k).2 k = true ∧ ¬ 0 < cnt x (k + 1) 1 then (if (p2 rd (fun i => cnt x i 1) (x + 1) (p1 rd (fun i => cnt x i 2) (x + 1) F W) k).1 x (k + 1) + 1 < rd (k + 1) then (upM (p2 rd (fun i => cnt x i 1) (x + 1) (p1 rd (fun i => cnt x i 2) (x + 1) F W) k).1 x (k + 1) ((p2 rd (fun i => cnt x i 1) (x + 1) (p1 rd (fun i => cnt x i 2) (x + 1) F W) k).1 x (k + 1) + 1), (p2 rd (fun i => cnt x i 1) (x + 1) (p1 rd (fun i => cnt x i 2) (x + 1) F W) k).2) else (upM (p2 rd (fun i => cnt x i 1) (x + 1) (p1 rd (fun i => cnt x i 2) (x + 1) F W) k).1 x (k + 1) 0, upW (p2 rd (fun i => cnt x i 1) (x + 1) (p1 rd (fun i => cnt x i 2) (x + 1) F W) k).2 (k + 1) true)) else (p2 rd (fun i => cnt x i 1) (x + 1) (p1 rd (fun i => cnt x i 2) (x + 1) F W) k) := rfl
        rw [if_neg (fun z => by rw [hwk, z.1] at h133; exact absurd h133 (by decide))] at hb
        refine ih (k + 1) _ (by omega) (by omega) hS (by rw [hb]; exact hF) (by rw [hb]; exact hw) hE
      · refine e_aload_n dX5_adds_136 0 rfl rfl rfl ?_
        refine e_iload_n dX5_adds_137 1 rfl rfl ?_
        refine e_iload dX5_adds_138 rfl ?_
        refine e_iconst 1 dX5_adds_140 rfl ?_
        refine e_iaddN k 1 dX5_adds_141 ?_
        refine e_iconst 1 dX5_adds_142 rfl ?_
        refine e_callVB (As := [.int (nI x), .int (nI (k + 1)), .int 1]) (rest := []) dX5_adds_143 rfl mvX5_62 (em_o) rfl (x_hasC (η := η) hm20 eM ((Sme.c (η := η0) (by exact hS) _ _ _ _).trans (hcn x (k + 1) 1))) (Nat.le_of_ble_eq_true rfl) rfl rfl (Nat.le_of_ble_eq_true rfl) (Nat.zero_le _) (Nat.zero_le _) (fun h143 => ?_) (fun h143 => ?_)
        · refine e_if_eq_f (by decide) 152 dX5_adds_146 (by decide) ?_
          refine e_goto 200 dX5_adds_149 (by decide) ?_
          refine e_incN k (k + 1) (inc1 _) dX5_adds_200 rfl (ls_s (ls_s (ls_s (ls_s (ls_1 rfl))))) (Nat.le_of_ble_eq_true rfl) ?_
          refine e_goto 115 dX5_adds_203 (by decide) ?_
          have hb : (p2 rd (fun i => cnt x i 1) (x + 1) (p1 rd (fun i => cnt x i 2) (x + 1) F W) (k + 1)) = if (p2 rd (fun i => cnt x i 1) (x + 1) (p1 rd (fun i => cnt x i 2) (x + 1) F W) k).2 k = true ∧ ¬ 0 < cnt x (k + 1) 1 then (if (p2 rd (fun i => cnt x i 1) (x + 1) (p1 rd (fun i => cnt x i 2) (x + 1) F W) k).1 x (k + 1) + 1 < rd (k + 1) then (upM (p2 rd (fun i => cnt x i 1) (x + 1) (p1 rd (fun i => cnt x i 2) (x + 1) F W) k).1 x (k + 1) ((p2 rd (fun i => cnt x i 1) (x + 1) (p1 rd (fun i => cnt x i 2) (x + 1) F W) k).1 x (k + 1) + 1), (p2 rd (fun i => cnt x i 1) (x + 1) (p1 rd (fun i => cnt x i 2) (x + 1) F W) k).2) else (upM (p2 rd (fun i => cnt x i 1) (x + 1) (p1 rd (fun i => cnt x i 2) (x + 1) F W) k).1 x (k + 1) 0, upW (p2 rd (fun i => cnt x i 1) (x + 1) (p1 rd (fun i => cnt x i 2) (x + 1) F W) k).2 (k + 1) true)) else (p2 rd (fun i => cnt x i 1) (x + 1) (p1 rd (fun i => cnt x i 2) (x + 1) F W) k) := rfl
          have hk1 : (p2 rd (fun i => cnt x i 1) (x + 1) (p1 rd (fun i => cnt x i 2) (x + 1) F W) k).2 k = true := by
            cases e : (p2 rd (fun i => cnt x i 1) (x + 1) (p1 rd (fun i => cnt x i 2) (x + 1) F W) k).2 k with
            | true => rfl
            | false => rw [hwk, e] at h133; exact absurd rfl h133
          rw [if_neg (fun z => z.2 h143)] at hb
          refine ih (k + 1) _ (by omega) (by omega) hS (by rw [hb]; exact hF) (by rw [hb]; exact hw) hE
        · refine e_if_eq_t 152 (by decide) dX5_adds_146 (by decide) ?_
          refine e_aload_n dX5_adds_152 3 rfl rfl rfl ?_
          refine e_iload dX5_adds_153 rfl ?_
          refine e_iconst 1 dX5_adds_155 rfl ?_
          refine e_iaddN k 1 dX5_adds_156 ?_
          refine e_dup2 dX5_adds_157 rfl rfl ?_
          refine e_iald (f := η.2.2.2.2.2.2.2 x) (j := k + 1) dX5_adds_158 (em_f (η := η) hA hW (by omega)) rfl (by omega) (by omega) ?_
          refine e_top (congrArg Value.int (hF x (by omega) (k + 1) (by omega))) ?_
          refine e_iconst 1 dX5_adds_159 rfl ?_
          refine e_iaddN (((p2 rd (fun i => cnt x i 1) (x + 1) (p1 rd (fun i => cnt x i 2) (x + 1) F W) k).1) x (k + 1)) 1 dX5_adds_160 ?_
          refine e_iast (f := η.2.2.2.2.2.2.2 x) (j := k + 1) dX5_adds_161 (em_f (η := η) hA hW (by omega)) rfl (by omega) (by omega) ?_
          rw [em_fs (η := η) hA hW (by omega)]
          refine e_aload_n dX5_adds_162 3 rfl rfl rfl ?_
          refine e_iload dX5_adds_163 rfl ?_
          refine e_iconst 1 dX5_adds_165 rfl ?_
          refine e_iaddN k 1 dX5_adds_166 ?_
          refine e_iald (f := (upd (η.2.2.2.2.2.2.2 x) (k + 1) (nI ((((p2 rd (fun i => cnt x i 1) (x + 1) (p1 rd (fun i => cnt x i 2) (x + 1) F W) k).1) x (k + 1)) + 1)))) (j := k + 1) dX5_adds_167 (em_fN (η := η) hA hW (by omega)) rfl (by omega) (by omega) ?_
          refine e_top (congrArg Value.int pk_us) ?_
          refine e_aload_n dX5_adds_168 0 rfl rfl rfl ?_
          refine e_getf (v := (.ref (pre.length + 6))) dX5_adds_169 rfl fX5_35 em_o rfl ?_
          refine e_iload dX5_adds_172 rfl ?_
          refine e_iconst 1 dX5_adds_174 rfl ?_
          refine e_iaddN k 1 dX5_adds_175 ?_
          refine e_iald (f := η.2.2.2.2.2.2.1) (j := k + 1) dX5_adds_176 (em_rW (η := (nF η x (upd (η.2.2.2.2.2.2.2 x) (k + 1) (nI ((((p2 rd (fun i => cnt x i 1) (x + 1) (p1 rd (fun i => cnt x i 2) (x + 1) F W) k).1) x (k + 1)) + 1))))) hW) rfl (by omega) (by omega) ?_
          refine e_top (congrArg Value.int (hR (k + 1) (by omega))) ?_
          refine e_icmp_geN ((((p2 rd (fun i => cnt x i 1) (x + 1) (p1 rd (fun i => cnt x i 2) (x + 1) F W) k).1) x (k + 1)) + 1) (rd (k + 1)) 183 (by omega) (by omega) dX5_adds_177 (by decide) (fun h177 => ?_) (fun h177 => ?_)
          · refine e_aload_n dX5_adds_183 3 rfl rfl rfl ?_
            refine e_iload dX5_adds_184 rfl ?_
            refine e_iconst 1 dX5_adds_186 rfl ?_
            refine e_iaddN k 1 dX5_adds_187 ?_
            refine e_iconst 0 dX5_adds_188 rfl ?_
            refine e_iast (f := (upd (η.2.2.2.2.2.2.2 x) (k + 1) (nI ((((p2 rd (fun i => cnt x i 1) (x + 1) (p1 rd (fun i => cnt x i 2) (x + 1) F W) k).1) x (k + 1)) + 1)))) (j := k + 1) dX5_adds_189 (em_fN (η := η) hA hW (by omega)) rfl (by omega) (by omega) ?_
            rw [em_fs (η := (nF η x (upd (η.2.2.2.2.2.2.2 x) (k + 1) (nI ((((p2 rd (fun i => cnt x i 1) (x + 1) (p1 rd (fun i => cnt x i 2) (x + 1) F W) k).1) x (k + 1)) + 1))))) hA hW (by omega)]
            refine e_aload_n dX5_adds_190 0 rfl rfl rfl ?_
            refine e_getf (v := (.ref (pre.length + 5))) dX5_adds_191 rfl fX5_24 em_o rfl ?_
            refine e_iload dX5_adds_194 rfl ?_
            refine e_iconst 1 dX5_adds_196 rfl ?_
            refine e_iaddN k 1 dX5_adds_197 ?_
            refine e_iconst 1 dX5_adds_198 rfl ?_
            refine e_zast (f := η.2.2.2.2.2.1) (j := k + 1) dX5_adds_199 (em_w) rfl (by omega) (by omega) ?_
            rw [em_sW]
            refine e_incN k (k + 1) (inc1 _) dX5_adds_200 rfl (ls_s (ls_s (ls_s (ls_s (ls_1 rfl))))) (Nat.le_of_ble_eq_true rfl) ?_
            refine e_goto 115 dX5_adds_203 (by decide) ?_
            have hb : (p2 rd (fun i => cnt x i 1) (x + 1) (p1 rd (fun i => cnt x i 2) (x + 1) F W) (k + 1)) = if (p2 rd (fun i => cnt x i 1) (x + 1) (p1 rd (fun i => cnt x i 2) (x + 1) F W) k).2 k = true ∧ ¬ 0 < cnt x (k + 1) 1 then (if (p2 rd (fun i => cnt x i 1) (x + 1) (p1 rd (fun i => cnt x i 2) (x + 1) F W) k).1 x (k + 1) + 1 < rd (k + 1) then (upM (p2 rd (fun i => cnt x i 1) (x + 1) (p1 rd (fun i => cnt x i 2) (x + 1) F W) k).1 x (k + 1) ((p2 rd (fun i => cnt x i 1) (x + 1) (p1 rd (fun i => cnt x i 2) (x + 1) F W) k).1 x (k + 1) + 1), (p2 rd (fun i => cnt x i 1) (x + 1) (p1 rd (fun i => cnt x i 2) (x + 1) F W) k).2) else (upM (p2 rd (fun i => cnt x i 1) (x + 1) (p1 rd (fun i => cnt x i 2) (x + 1) F W) k).1 x (k + 1) 0, upW (p2 rd (fun i => cnt x i 1) (x + 1) (p1 rd (fun i => cnt x i 2) (x + 1) F W) k).2 (k + 1) true)) else (p2 rd (fun i => cnt x i 1) (x + 1) (p1 rd (fun i => cnt x i 2) (x + 1) F W) k) := rfl
            have hk1 : (p2 rd (fun i => cnt x i 1) (x + 1) (p1 rd (fun i => cnt x i 2) (x + 1) F W) k).2 k = true := by
              cases e : (p2 rd (fun i => cnt x i 1) (x + 1) (p1 rd (fun i => cnt x i 2) (x + 1) F W) k).2 k with
              | true => rfl
              | false => rw [hwk, e] at h133; exact absurd rfl h133
            rw [if_pos ⟨hk1, h143⟩, if_neg (by omega)] at hb
            refine ih (k + 1) _ (by omega) (by omega) (by exact hS) ?_ (fun i hi => ?_) hE
            · rw [hb]
              refine EfM.up hF (fun b hb => (nF_n hb).trans (nF_n hb)) ((congrFun (nF_s _ _ _) _).trans pk_us) (fun i hi => (congrFun (nF_s _ _ _) i).trans ((pk_un hi).trans (pk_un hi)))
            · rw [hb]
              show upd η.2.2.2.2.2.1 (k + 1) (vp_nar .boolean 1) i = bI (upW (p2 rd (fun i => cnt x i 1) (x + 1) (p1 rd (fun i => cnt x i 2) (x + 1) F W) k).2 (k + 1) true i)
              by_cases ei : i = k + 1
              · subst ei; rw [pk_us, vpb1]; unfold upW; rw [if_pos rfl]
              · rw [pk_un ei]; unfold upW; rw [if_neg ei]; exact hw i hi
          · refine e_goto 200 dX5_adds_180 (by decide) ?_
            refine e_incN k (k + 1) (inc1 _) dX5_adds_200 rfl (ls_s (ls_s (ls_s (ls_s (ls_1 rfl))))) (Nat.le_of_ble_eq_true rfl) ?_
            refine e_goto 115 dX5_adds_203 (by decide) ?_
            have hb : (p2 rd (fun i => cnt x i 1) (x + 1) (p1 rd (fun i => cnt x i 2) (x + 1) F W) (k + 1)) = if (p2 rd (fun i => cnt x i 1) (x + 1) (p1 rd (fun i => cnt x i 2) (x + 1) F W) k).2 k = true ∧ ¬ 0 < cnt x (k + 1) 1 then (if (p2 rd (fun i => cnt x i 1) (x + 1) (p1 rd (fun i => cnt x i 2) (x + 1) F W) k).1 x (k + 1) + 1 < rd (k + 1) then (upM (p2 rd (fun i => cnt x i 1) (x + 1) (p1 rd (fun i => cnt x i 2) (x + 1) F W) k).1 x (k + 1) ((p2 rd (fun i => cnt x i 1) (x + 1) (p1 rd (fun i => cnt x i 2) (x + 1) F W) k).1 x (k + 1) + 1), (p2 rd (fun i => cnt x i 1) (x + 1) (p1 rd (fun i => cnt x i 2) (x + 1) F W) k).2) else (upM (p2 rd (fun i => cnt x i 1) (x + 1) (p1 rd (fun i => cnt x i 2) (x + 1) F W) k).1 x (k + 1) 0, upW (p2 rd (fun i => cnt x i 1) (x + 1) (p1 rd (fun i => cnt x i 2) (x + 1) F W) k).2 (k + 1) true)) else (p2 rd (fun i => cnt x i 1) (x + 1) (p1 rd (fun i => cnt x i 2) (x + 1) F W) k) := rfl
            have hk1 : (p2 rd (fun i => cnt x i 1) (x + 1) (p1 rd (fun i => cnt x i 2) (x + 1) F W) k).2 k = true := by
              cases e : (p2 rd (fun i => cnt x i 1) (x + 1) (p1 rd (fun i => cnt x i 2) (x + 1) F W) k).2 k with
              | true => rfl
              | false => rw [hwk, e] at h133; exact absurd rfl h133
            rw [if_pos ⟨hk1, h143⟩, if_pos (by omega)] at hb
            refine ih (k + 1) _ (by omega) (by omega) (by exact hS) ?_ (by rw [hb]; exact hw) hE
            rw [hb]
            refine EfM.up hF (fun b hb => nF_n hb) ((congrFun (nF_s _ _ _) _).trans pk_us) (fun i hi => (congrFun (nF_s _ _ _) i).trans (pk_un hi))

set_option maxHeartbeats 4000000 in
set_option maxRecDepth 100000 in
/-- WheelTables$Engine.adds -/
theorem x_adds {pre post : List ACell} {η : En} {A W m : Nat} {rd : Nat → Nat} {cnt : Nat → Nat → Nat → Nat} {x : Nat} {F : Mx} (hJ0 : EnJ η A W m rd) (hcn : ∀ x w k, cE η η.2.2.1 x w k m = cnt x w k) (hx : x + 1 < A) (hr : Rds W rd) (hB : Bnd A W rd F) (hF : EfM η A W F) : Ct yX5_adds (ws_ yX5_adds cX5_adds 6 none) 2 0 0 [.ref pre.length, .int (nI x), .int (nI (x + 1))] (EM pre η post) (fun v M' => v = none ∧ ∃ η', M' = EM pre η' post ∧ Sme η' η ∧ EfM η' A W (addX W rd cnt (x + 1) F)) noX := by
  obtain ⟨hA, hW, hA7, hW12, hm20, eM, hR⟩ := id hJ0
  refine Ct.of (ini := false) (ls := [some (.ref pre.length), some (.int (nI x)), some (.int (nI (x + 1))), none, none, none]) (by decide) (Nat.le_of_ble_eq_true rfl) (fun h => by cases h) rfl ?_
  refine e_aload_n dX5_adds_0 0 rfl rfl rfl ?_
  refine e_getf (v := (.ref (pre.length + 7))) dX5_adds_1 rfl fX5_46 em_o rfl ?_
  refine e_iload_n dX5_adds_4 1 rfl rfl ?_
  refine e_aald (f := enA pre.length A) (j := x) dX5_adds_5 (em_xA (η := η) hA) (fun _ => rfl) rfl (by omega) (by omega) ?_
  refine e_top (congrArg rfO (enA_at (by omega))) ?_
  refine e_getf (v := (.ref (pre.length + 9 + 2 * x))) dX5_adds_6 rfl fX5_53 (em_a (η := η) hA (by omega)) rfl ?_
  refine e_astore_n dX5_adds_9 3 rfl (ls_s (ls_s (ls_1 rfl))) (Nat.le_of_ble_eq_true rfl) rfl ?_
  refine e_aload_n dX5_adds_10 0 rfl rfl rfl ?_
  refine e_getf (v := (.ref (pre.length + 7))) dX5_adds_11 rfl fX5_46 em_o rfl ?_
  refine e_iload_n dX5_adds_14 2 rfl rfl ?_
  refine e_aald (f := enA pre.length A) (j := x + 1) dX5_adds_15 (em_xA (η := η) hA) (fun _ => rfl) rfl (by omega) (by omega) ?_
  refine e_top (congrArg rfO (enA_at (by omega))) ?_
  refine e_getf (v := (.ref (pre.length + 9 + 2 * (x + 1)))) dX5_adds_16 rfl fX5_53 (em_a (η := η) hA (by omega)) rfl ?_
  refine e_astore dX5_adds_19 (ls_s (ls_s (ls_s (ls_1 rfl)))) (Nat.le_of_ble_eq_true rfl) rfl ?_
  refine e_iconst 0 dX5_adds_21 rfl ?_
  refine e_istore dX5_adds_22 (ls_s (ls_s (ls_s (ls_s (ls_1 rfl))))) (Nat.le_of_ble_eq_true rfl) ?_
  refine x_adds1 hJ0 hcn hx hr hB (W + 1) 0 η (by omega) (by omega) (Sme.rf _) hF (fun i hi => absurd hi (by omega)) (fun η1 hS1 hF1 hw1 => ?_)
  refine e_iconst 0 dX5_adds_112 rfl ?_
  refine e_istore dX5_adds_113 (ls_s (ls_s (ls_s (ls_s (ls_1 rfl))))) (Nat.le_of_ble_eq_true rfl) ?_
  exact x_adds2 hJ0 hcn hx hr hB (W + 1) 0 η1 (by omega) (by omega) hS1 hF1 hw1 (fun η2 hS2 hF2 => ⟨rfl, η2, rfl, hS2, hF2⟩)

