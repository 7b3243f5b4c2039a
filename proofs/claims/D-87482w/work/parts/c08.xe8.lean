/-! ===== the component: engines, the face (2) ===== -/
theorem Rel.eng {own : Nat → Nat} {ξ : Xs} {dyn : List ACell} {τ τ' : Tw} (hRel : Rel own ξ dyn τ) {j b : Nat} {η η' : En} (hj : j < gE τ) (hRe : ξ.2.2.2.2.1 1 j = some (117 + b)) (hH : HlD dyn b (enB (117 + b) η)) (hown : ∀ k, k < 8 + 2 * η.1 → own (b + k) = 10 + j) (hn : EnR η τ j)
    (h1' : η'.1 = η.1) (h2' : η'.2.1 = η.2.1) (h7' : η'.2.2.2.2.2.2.1 = η.2.2.2.2.2.2.1) (q1 : τ'.1 = τ.1) (q2 : ∀ k, k ∉ [8, 10, 12, 13, 14, 15, 16] → τ'.2.2.1 k = τ.2.2.1 k) (q3 : τ'.2.2.2 = τ.2.2.2) (hs : ∀ e, e < 4 → ¬ e = j → SmE τ' τ e)
    {u m : Nat} {F : Mx} (hu : u ≤ 1000) (hu1 : η'.2.2.1 = nI u) (hu2 : τ'.2.2.1 8 j = nI u) (hm : m ≤ 20) (hm1 : η'.2.2.2.1 = nI m) (hm2 : τ'.2.2.1 12 j = nI m)
    (hmis : ∀ q, q < m → η'.2.2.2.2.1 0 q = τ'.2.2.1 13 (20 * j + q) ∧ η'.2.2.2.2.1 1 q = τ'.2.2.1 14 (20 * j + q) ∧ η'.2.2.2.2.1 2 q = τ'.2.2.1 15 (20 * j + q) ∧ η'.2.2.2.2.1 3 q = τ'.2.2.1 16 (20 * j + q)) (hMk : MisOk τ' j)
    (hB : Bnd (gA τ j) (gW τ j) (gR τ j) F) (hF1 : EfM η' (gA τ j) (gW τ j) F) (hF2 : ∀ a, a < gA τ j → ∀ i, i < gW τ j → τ'.2.2.1 10 (12 * (7 * j + a) + i) = nI (F a i)) : Rel own ξ (rpB dyn b (enB (117 + b) η')) τ' := by
  have hIE := hRel.2.2.2.2.2.2.2.1.1
  have hj4 : j < 4 := by have := hIE.1; omega
  obtain ⟨hO, hMs⟩ := hIE.2.2.1 j hj
  have hO' : EngOk τ' j := hO.chg (congrFun (q2 6 (by decide)) j) (congrFun (q2 7 (by decide)) j) (fun i _ => congrFun (q2 9 (by decide)) _) hu hu2 hm hm2 hB hF2
  have hI' : InvE τ' := hIE.row hj (congrFun q1 5) hs hO' hMk
  have ga : gA τ' j = gA τ j := by unfold gA; rw [q2 6 (by decide)]
  have gw : gW τ' j = gW τ j := by unfold gW; rw [q2 7 (by decide)]
  have gm : gM τ' j = m := by unfold gM; rw [hm2, ix_nI (by omega)]
  refine hRel.en hj hRe hH hown h1' q1 q2 q3 hI' (fun e' η1 he' hne h => (hs e' (by have := hIE.1; omega) hne).R (hIE.2.2.1 e' he').1 h) ?_
  unfold EnR
  rw [ga, gw, gm, h1', h2', h7', hu1, hm1, hu2, hm2, q2 9 (by decide)]
  exact ⟨hn.1, hn.2.1, rfl, rfl, hmis, hn.2.2.2.2.2.1, fun a ha i hi => (hF1 a ha i hi).trans (hF2 a ha i hi).symm⟩
theorem va_out {f : Nat → Nat → Int32} {k : Nat} {g : Nat → Int32} {L : List Nat} (hk : k ∈ L) : ∀ j, j ∉ L → va_up f k g j = f j := fun j hj => va_up_ne _ _ (fun e => hj (e ▸ hk))
set_option maxHeartbeats 4000000 in
set_option maxRecDepth 100000 in
/-- WheelTables.put -/
theorem x_put {ξ : Xs} {mid dyn : List ACell} {τ : Tw} {own : Nat → Nat} (hm : mid.length = 61) (hRel : Rel own ξ dyn τ) (e x w f : Int32) : Ct yX0_put (ws_ yX0_put cX0_put 5 (some .boolean)) 2 0 0 [.ref 0, .int e, .int x, .int w, .int f] (XM ξ mid dyn) (XQi mid (sp_put e x w f τ)) noX := by
  obtain ⟨hI, hA, hB, hW, hP, hR, hT, hE, hC, hV⟩ := id hRel
  have hI4 := hE.1.1
  refine Ct.of (ini := false) (ls := [some (.ref 0), some (.int e), some (.int x), some (.int w), some (.int f)]) (by decide) (Nat.le_of_ble_eq_true rfl) (fun h => by cases h) rfl ?_
  refine e_aload_n dX0_put_0 0 rfl rfl rfl ?_
  refine e_iload_n dX0_put_1 1 rfl rfl ?_
  refine e_iload_n dX0_put_2 2 rfl rfl ?_
  refine e_iload_n dX0_put_3 3 rfl rfl ?_
  refine e_callVB (As := [.int e, .int x, .int w]) (rest := []) dX0_put_4 rfl mvX0_218 (xm_o0) rfl (x_isWheel hm hRel e x w) (Nat.le_of_ble_eq_true rfl) rfl rfl (Nat.le_of_ble_eq_true rfl) (Nat.zero_le _) (Nat.zero_le _) (fun h4 => ?_) (fun h4 => ?_)
  · have h4 : (IsWh e x w τ) := h4
    refine e_if_ne_t 16 (by decide) dX0_put_7 (by decide) ?_
    obtain ⟨j, a, i, hj, hj4, rfl, ha, rfl, hi, rfl⟩ := wheel_of hE.1 h4
    obtain ⟨hO, hMs⟩ := hE.1.2.2.1 j hj
    obtain ⟨b, η, hRe, hH, hown, hn⟩ := hE.2 j hj
    obtain ⟨hA, hW, hA7, hW12, hm20, eM, hRd⟩ := id (hn.J hO)
    have eA := hO.1.2.2
    have eW := hO.2.1.2.2
    refine e_iload dX0_put_16 rfl ?_
    refine e_if_lt 37 dX0_put_18 (by decide) (fun h18 => ?_) (fun h18 => ?_)
    · refine e_aload_n dX0_put_37 0 rfl rfl rfl ?_
      refine e_iconst 5 dX0_put_38 rfl ?_
      refine e_callV1 (As := [.int 5]) (rest := []) dX0_put_39 rfl mvX0_152 (xm_o0) rfl (x_isN (w := 5) (by decide)) (Nat.le_of_ble_eq_true rfl) rfl rfl (Nat.le_of_ble_eq_true rfl) (Nat.zero_le _) (Nat.zero_le _) ?_
      refine e_ireturn dX0_put_42 rfl rfl (Nat.zero_le _) (Nat.zero_le _) ?_
      refine ⟨_, _, own, rfl, ?_, ?_⟩
      · rw [sp_put, if_neg (fun z => z h4), if_pos (fun z => i32_lt h18 z.1)]
      · rw [sp_put, if_neg (fun z => z h4), if_pos (fun z => i32_lt h18 z.1)]; exact hRel.stE 5
    · refine e_iload dX0_put_21 rfl ?_
      refine e_aload_n dX0_put_23 0 rfl rfl rfl ?_
      refine e_getf (v := (.ref 2)) dX0_put_24 rfl fX0_17 (xm_o0) rfl ?_
      refine e_iload_n dX0_put_27 1 rfl rfl ?_
      refine e_aald (f := ξ.2.2.2.2.1 1) (j := j) dX0_put_28 xm_r2 (fun _ => rfl) rfl (by omega) (by decide) ?_
      refine e_top (congrArg rfO hRe) ?_
      refine e_getf (v := (.ref (117 + b + 6))) dX0_put_29 rfl fX0_231 (xh_o hm hH) rfl ?_
      refine e_iload_n dX0_put_32 3 rfl rfl ?_
      refine e_iald (f := η.2.2.2.2.2.2.1) (j := i) dX0_put_33 (xh_r hm hH hW) rfl (by omega) (by omega) ?_
      refine e_top (congrArg Value.int (hn.2.2.2.2.2.1 i hi)) ?_
      refine e_icmp_lt 43 dX0_put_34 (by decide) (fun h34 => ?_) (fun h34 => ?_)
      · have hr9 := hO.2.2.2.2.1 i hi
        obtain ⟨v, hv, rfl⟩ := in_of (n := gR τ j i) (by omega) (i32_nlt h18) (by rw [← hr9.2.2]; exact h34)
        refine e_aload_n dX0_put_43 0 rfl rfl rfl ?_
        refine e_getf (v := (.ref 2)) dX0_put_44 rfl fX0_17 (xm_o0) rfl ?_
        refine e_iload_n dX0_put_47 1 rfl rfl ?_
        refine e_aald (f := ξ.2.2.2.2.1 1) (j := j) dX0_put_48 xm_r2 (fun _ => rfl) rfl (by omega) (by decide) ?_
        refine e_top (congrArg rfO hRe) ?_
        refine e_getf (v := (.ref (117 + b + 7))) dX0_put_49 rfl fX0_222 (xh_o hm hH) rfl ?_
        refine e_iload_n dX0_put_52 2 rfl rfl ?_
        refine e_aald (f := enA (117 + b) (gA τ j)) (j := a) dX0_put_53 (xh_x hm hH hA) (fun _ => rfl) rfl (by omega) (by omega) ?_
        refine e_top (congrArg rfO (enA_at (by omega))) ?_
        refine e_getf (v := (.ref (117 + b + 9 + 2 * a))) dX0_put_54 rfl fX0_226 (xh_a hm hH hA (by omega)) rfl ?_
        refine e_iload_n dX0_put_57 3 rfl rfl ?_
        refine e_iload dX0_put_58 rfl ?_
        refine e_iast (f := η.2.2.2.2.2.2.2 a) (j := i) dX0_put_60 (xh_f hm hH hA hW (by omega)) rfl (by omega) (by omega) ?_
        rw [xh_fs hm hH hA hW (by omega)]
        refine e_aload_n dX0_put_61 0 rfl rfl rfl ?_
        refine e_iconst 0 dX0_put_62 rfl ?_
        refine e_callV1 (As := [.int 0]) (rest := []) dX0_put_63 rfl mvX0_152 (xm_o0) rfl (x_is0) (Nat.le_of_ble_eq_true rfl) rfl rfl (Nat.le_of_ble_eq_true rfl) (Nat.zero_le _) (Nat.zero_le _) ?_
        refine e_ireturn dX0_put_66 rfl rfl (Nat.zero_le _) (Nat.zero_le _) ?_
        have g : 0 ≤ nI v ∧ nI v < τ.2.2.1 9 (12 * ix (nI j) + ix (nI i)) := ⟨i32_nlt h18, by rw [ix_nI (by omega), ix_nI (by omega)]; exact h34⟩
        refine ⟨_, _, own, rfl, ?_, ?_⟩
        · rw [sp_put, if_neg (fun z => z h4), if_neg (fun z => z g)]
        · rw [sp_put, if_neg (fun z => z h4), if_neg (fun z => z g), ix_nI (by omega), ix_nI (by omega), ix_nI (by omega)]
          have u10 : ∀ k, (tA (b0 τ) 10 (upd (τ.2.2.1 10) (12 * (7 * j + a) + i) (nI v))).2.2.1 10 k = upd (τ.2.2.1 10) (12 * (7 * j + a) + i) (nI v) k := fun _ => rfl
          refine hRel.st0.eng (τ' := tA (b0 τ) 10 (upd (τ.2.2.1 10) (12 * (7 * j + a) + i) (nI v))) (u := gU τ j) (m := gM τ j) (F := upM (gF τ j) a i v) hj hRe hH hown hn rfl rfl rfl rfl (fun k hk => (va_out (L := [8, 10, 12, 13, 14, 15, 16]) (by decide) k hk).trans (rfl)) rfl (fun e he hne => ⟨⟨rfl, rfl, rfl, rfl⟩, fun _ _ => rfl, fun q hq => (u10 _).trans (pk_un (by omega)), fun _ _ => ⟨rfl, rfl, rfl, rfl⟩⟩)
            hO.2.2.1.1 (hn.2.2.1.trans hO.2.2.1.2) hO.2.2.1.2 hm20 eM hO.2.2.2.1.2 hn.2.2.2.2.1 hMs (hO.B.up hv) ((hn.F hO).up (fun b hb => nF_n hb) ((congrFun (nF_s _ _ _) _).trans pk_us) (fun i hi => (congrFun (nF_s _ _ _) i).trans (pk_un hi))) (fun a' ha' i' hi' => ?_)
          rw [u10]
          by_cases e : a' = a ∧ i' = i
          · obtain ⟨rfl, rfl⟩ := e
            rw [pk_us, upM_s]
          · have hax : a' < gA τ j := ha'
            have hix : i' < gW τ j := hi'
            rw [pk_un (by omega), upM_n e]; exact (hO.2.2.2.2.2 a' ha' i' hi').2
      · refine e_aload_n dX0_put_37 0 rfl rfl rfl ?_
        refine e_iconst 5 dX0_put_38 rfl ?_
        refine e_callV1 (As := [.int 5]) (rest := []) dX0_put_39 rfl mvX0_152 (xm_o0) rfl (x_isN (w := 5) (by decide)) (Nat.le_of_ble_eq_true rfl) rfl rfl (Nat.le_of_ble_eq_true rfl) (Nat.zero_le _) (Nat.zero_le _) ?_
        refine e_ireturn dX0_put_42 rfl rfl (Nat.zero_le _) (Nat.zero_le _) ?_
        refine ⟨_, _, own, rfl, ?_, ?_⟩
        · rw [sp_put, if_neg (fun z => z h4), if_pos (fun z => h34 (by have z2 := z.2; rw [ix_nI (by omega), ix_nI (by omega)] at z2; exact z2))]
        · rw [sp_put, if_neg (fun z => z h4), if_pos (fun z => h34 (by have z2 := z.2; rw [ix_nI (by omega), ix_nI (by omega)] at z2; exact z2))]; exact hRel.stE 5
  · have h4 : ¬ (IsWh e x w τ) := h4
    refine e_if_ne_f (by decide) 16 dX0_put_7 (by decide) ?_
    refine e_aload_n dX0_put_10 0 rfl rfl rfl ?_
    refine e_iconst 2 dX0_put_11 rfl ?_
    refine e_callV1 (As := [.int 2]) (rest := []) dX0_put_12 rfl mvX0_152 (xm_o0) rfl (x_isN (w := 2) (by decide)) (Nat.le_of_ble_eq_true rfl) rfl rfl (Nat.le_of_ble_eq_true rfl) (Nat.zero_le _) (Nat.zero_le _) ?_
    refine e_ireturn dX0_put_15 rfl rfl (Nat.zero_le _) (Nat.zero_le _) ?_
    refine ⟨_, _, own, rfl, ?_, ?_⟩
    · rw [sp_put, if_pos h4]
    · rw [sp_put, if_pos h4]; exact hRel.stE 2

set_option maxHeartbeats 4000000 in
set_option maxRecDepth 100000 in
/-- WheelTables.mend -/
theorem x_mend {ξ : Xs} {mid dyn : List ACell} {τ : Tw} {own : Nat → Nat} (hm : mid.length = 61) (hRel : Rel own ξ dyn τ) (e : Int32) : Ct yX0_mend (ws_ yX0_mend cX0_mend 2 (some .boolean)) 2 0 0 [.ref 0, .int e] (XM ξ mid dyn) (XQi mid (sp_mend e τ)) noX := by
  obtain ⟨hI, hA, hB, hW, hP, hR, hT, hE, hC, hV⟩ := id hRel
  have hI4 := hE.1.1
  refine Ct.of (ini := false) (ls := [some (.ref 0), some (.int e)]) (by decide) (Nat.le_of_ble_eq_true rfl) (fun h => by cases h) rfl ?_
  refine e_aload_n dX0_mend_0 0 rfl rfl rfl ?_
  refine e_iload_n dX0_mend_1 1 rfl rfl ?_
  refine e_callVB (As := [.int e]) (rest := []) dX0_mend_2 rfl mvX0_196 (xm_o0) rfl (x_isEngine hm hRel e) (Nat.le_of_ble_eq_true rfl) rfl rfl (Nat.le_of_ble_eq_true rfl) (Nat.zero_le _) (Nat.zero_le _) (fun h2 => ?_) (fun h2 => ?_)
  · have h2 : (IsE e τ) := h2
    refine e_if_ne_t 14 (by decide) dX0_mend_5 (by decide) ?_
    obtain ⟨j, hj, hj4, rfl⟩ := eng_of hE.1 h2
    obtain ⟨hO, hMs⟩ := hE.1.2.2.1 j hj
    obtain ⟨b, η, hRe, hH, hown, hn⟩ := hE.2 j hj
    obtain ⟨hA, hW, hA7, hW12, hm20, eM, hRd⟩ := id (hn.J hO)
    have eA := hO.1.2.2
    have eW := hO.2.1.2.2
    refine e_aload_n dX0_mend_14 0 rfl rfl rfl ?_
    refine e_getf (v := (.ref 2)) dX0_mend_15 rfl fX0_17 (xm_o0) rfl ?_
    refine e_iload_n dX0_mend_18 1 rfl rfl ?_
    refine e_aald (f := ξ.2.2.2.2.1 1) (j := j) dX0_mend_19 xm_r2 (fun _ => rfl) rfl (by omega) (by decide) ?_
    refine e_top (congrArg rfO hRe) ?_
    refine e_iconst 0 dX0_mend_20 rfl ?_
    refine e_xputI dX0_mend_21 rfl pX0_258 rfl (xh_o hm hH) (Nat.le_of_ble_eq_true rfl) (xh_sM hm hH _) ?_
    refine e_aload_n dX0_mend_24 0 rfl rfl rfl ?_
    refine e_iconst 0 dX0_mend_25 rfl ?_
    refine e_callV1 (As := [.int 0]) (rest := []) dX0_mend_26 rfl mvX0_152 (xm_o0) rfl (x_is0) (Nat.le_of_ble_eq_true rfl) rfl rfl (Nat.le_of_ble_eq_true rfl) (Nat.zero_le _) (Nat.zero_le _) ?_
    refine e_ireturn dX0_mend_29 rfl rfl (Nat.zero_le _) (Nat.zero_le _) ?_
    refine ⟨_, _, own, rfl, ?_, ?_⟩
    · rw [sp_mend, if_neg (fun z => z h2)]
    · rw [sp_mend, if_neg (fun z => z h2), ix_nI (by omega)]
      have u12 : ∀ k, (tA (b0 τ) 12 (upd (τ.2.2.1 12) j 0)).2.2.1 12 k = upd (τ.2.2.1 12) j 0 k := fun _ => rfl
      have g0 : gM (tA (b0 τ) 12 (upd (τ.2.2.1 12) j 0)) j = 0 := by unfold gM; rw [u12, pk_us]; rfl
      exact hRel.st0.eng (τ' := tA (b0 τ) 12 (upd (τ.2.2.1 12) j 0)) (u := gU τ j) (m := 0) (F := gF τ j) hj hRe hH hown hn rfl rfl rfl rfl (fun k hk => (va_out (L := [8, 10, 12, 13, 14, 15, 16]) (by decide) k hk).trans (rfl)) rfl (fun e he hne => ⟨⟨rfl, rfl, rfl, (u12 _).trans (pk_un hne)⟩, fun _ _ => rfl, fun _ _ => rfl, fun _ _ => ⟨rfl, rfl, rfl, rfl⟩⟩)
        hO.2.2.1.1 (hn.2.2.1.trans hO.2.2.1.2) hO.2.2.1.2 (by omega) rfl ((u12 j).trans pk_us) (fun q hq => absurd hq (by omega)) (fun q hq => absurd hq (by rw [g0]; omega)) hO.B (hn.F hO) (fun a ha i hi => (hO.2.2.2.2.2 a ha i hi).2)
  · have h2 : ¬ (IsE e τ) := h2
    refine e_if_ne_f (by decide) 14 dX0_mend_5 (by decide) ?_
    refine e_aload_n dX0_mend_8 0 rfl rfl rfl ?_
    refine e_iconst 2 dX0_mend_9 rfl ?_
    refine e_callV1 (As := [.int 2]) (rest := []) dX0_mend_10 rfl mvX0_152 (xm_o0) rfl (x_isN (w := 2) (by decide)) (Nat.le_of_ble_eq_true rfl) rfl rfl (Nat.le_of_ble_eq_true rfl) (Nat.zero_le _) (Nat.zero_le _) ?_
    refine e_ireturn dX0_mend_13 rfl rfl (Nat.zero_le _) (Nat.zero_le _) ?_
    refine ⟨_, _, own, rfl, ?_, ?_⟩
    · rw [sp_mend, if_pos h2]
    · rw [sp_mend, if_pos h2]; exact hRel.stE 2

theorem x_numX {ξ : Xs} {mid dyn : List ACell} (hm : mid.length = 61) {b : Nat} {η : En} (hH : HlD dyn b (enB (117 + b) η)) {A W m : Nat} {rd : Nat → Nat} (hJ : EnJ η A W m rd) {x : Nat} (hx : x < A) : Ct yX5_number (ws_ yX5_number cX5_number 5 (some .long)) 0 0 0 [.ref (117 + b), .int (nI x)] (XM ξ mid dyn) (Q1 (some (.long (oaN η.2.2.2.2.2.2.1 (η.2.2.2.2.2.2.2 x) W W))) (XM ξ mid dyn)) noX :=
  xh_ct hm hH (fun pre post hp hN hM => Ct.mono (x_enumber hJ hx) (fun u M h => ⟨h.1, h.2.trans hM.symm⟩) (fun _ _ _ h => h))
theorem oaN_cgx {r r' f f' : Nat → Int32} {W : Nat} : ∀ m, m ≤ W → (∀ i, i < W → r i = r' i) → (∀ i, i < W → f i = f' i) → oaN r f W m = oaN r' f' W m
  | 0, _, _, _ => rfl
  | m + 1, h, h1, h2 => by rw [oaN, oaN, oaN_cgx m (by omega) h1 h2, h1 _ (by omega), h2 _ (by omega)]
theorem EnR.on {τ : Tw} {η : En} {j a : Nat} (hn : EnR η τ j) (ha : a < gA τ j) : oaN η.2.2.2.2.2.2.1 (η.2.2.2.2.2.2.2 a) (gW τ j) (gW τ j) = spOn j a τ :=
  oaN_cgx _ (Nat.le_refl _) (fun i hi => hn.2.2.2.2.2.1 i hi) (fun i hi => hn.2.2.2.2.2.2 a ha i hi)
set_option maxHeartbeats 4000000 in
set_option maxRecDepth 100000 in
/-- WheelTables.number -/
theorem x_number {ξ : Xs} {mid dyn : List ACell} {τ : Tw} {own : Nat → Nat} (hm : mid.length = 61) (hRel : Rel own ξ dyn τ) (e x : Int32) : Ct yX0_number (ws_ yX0_number cX0_number 3 (some .long)) 2 0 0 [.ref 0, .int e, .int x] (XM ξ mid dyn) (XQl mid (sp_number e x τ)) noX := by
  obtain ⟨hI, hA, hB, hW, hP, hR, hT, hE, hC, hV⟩ := id hRel
  have hI4 := hE.1.1
  refine Ct.of (ini := false) (ls := [some (.ref 0), some (.int e), some (.int x)]) (by decide) (Nat.le_of_ble_eq_true rfl) (fun h => by cases h) rfl ?_
  refine e_aload_n dX0_number_0 0 rfl rfl rfl ?_
  refine e_iload_n dX0_number_1 1 rfl rfl ?_
  refine e_iload_n dX0_number_2 2 rfl rfl ?_
  refine e_iconst 0 dX0_number_3 rfl ?_
  refine e_callVB (As := [.int e, .int x, .int 0]) (rest := []) dX0_number_4 rfl mvX0_218 (xm_o0) rfl (x_isWheel hm hRel e x 0) (Nat.le_of_ble_eq_true rfl) rfl rfl (Nat.le_of_ble_eq_true rfl) (Nat.zero_le _) (Nat.zero_le _) (fun h4 => ?_) (fun h4 => ?_)
  · have h4 : (IsWh e x 0 τ) := h4
    refine e_if_ne_t 17 (by decide) dX0_number_7 (by decide) ?_
    have h40 := h4
    obtain ⟨j, a, i, hj, hj4, rfl, ha, rfl, hi, ei0⟩ := wheel_of hE.1 h4
    obtain ⟨hO, hMs⟩ := hE.1.2.2.1 j hj
    obtain ⟨b, η, hRe, hH, hown, hn⟩ := hE.2 j hj
    obtain ⟨hA, hW, hA7, hW12, hm20, eM, hRd⟩ := id (hn.J hO)
    refine e_aload_n dX0_number_17 0 rfl rfl rfl ?_
    refine e_iconst 0 dX0_number_18 rfl ?_
    refine e_xputI dX0_number_19 rfl pX0_145 rfl (xm_o0) (Nat.le_of_ble_eq_true rfl) (xm_f8 _) ?_
    refine e_aload_n dX0_number_22 0 rfl rfl rfl ?_
    refine e_getf (v := (.ref 2)) dX0_number_23 rfl fX0_17 (xm_o0) rfl ?_
    refine e_iload_n dX0_number_26 1 rfl rfl ?_
    refine e_aald (f := ξ.2.2.2.2.1 1) (j := j) dX0_number_27 xm_r2 (fun _ => rfl) rfl (by omega) (by decide) ?_
    refine e_top (congrArg rfO hRe) ?_
    refine e_iload_n dX0_number_28 2 rfl rfl ?_
    refine e_callV1 (As := [.int (nI a)]) (rest := []) dX0_number_29 rfl mvX0_234 (xh_o hm hH) rfl (x_numX hm hH (hn.J hO) ha) (Nat.le_of_ble_eq_true rfl) rfl rfl (Nat.le_of_ble_eq_true rfl) (Nat.zero_le _) (Nat.zero_le _) ?_
    refine e_lreturn dX0_number_32 rfl (Nat.zero_le _) (Nat.zero_le _) ?_
    refine ⟨_, _, own, rfl, ?_, ?_⟩
    · rw [sp_number, if_pos ⟨h4.1, h4.2.1⟩, ix_nI (by omega), ix_nI (by omega), ← hn.on ha]
    · rw [sp_number, if_pos ⟨h4.1, h4.2.1⟩]; exact hRel.st0
  · have h4 : ¬ (IsWh e x 0 τ) := h4
    refine e_if_ne_f (by decide) 17 dX0_number_7 (by decide) ?_
    refine e_aload_n dX0_number_10 0 rfl rfl rfl ?_
    refine e_iconst 2 dX0_number_11 rfl ?_
    refine e_callV1 (As := [.int 2]) (rest := []) dX0_number_12 rfl mvX0_169 (xm_o0) rfl (x_none 2) (Nat.le_of_ble_eq_true rfl) rfl rfl (Nat.le_of_ble_eq_true rfl) (Nat.zero_le _) (Nat.zero_le _) ?_
    refine e_i2l dX0_number_15 ?_
    refine e_lreturn dX0_number_16 rfl (Nat.zero_le _) (Nat.zero_le _) ?_
    have hz : ¬ (IsE e τ ∧ IsX e x τ) := fun z => h4 ⟨z.1, z.2, by decide, by
      obtain ⟨j, hj, hj4, rfl⟩ := eng_of hE.1 z.1
      have hO := (hE.1.2.2.1 j hj).1
      rw [ix_nI (by omega), hO.2.1.2.2]
      exact (nI_ltN (a := 0) (by omega) (by have := hO.2.1.2.1; omega)).mpr (by have := hO.2.1.1; omega)⟩
    refine ⟨_, _, own, rfl, ?_, ?_⟩
    · rw [sp_number, if_neg hz]; rfl
    · rw [sp_number, if_neg hz]; exact hRel.stE 2

