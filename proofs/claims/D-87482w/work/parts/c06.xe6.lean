/-! ===== the component: engines and the reference ===== -/
section
variable {τ τ' : Tw} {η : En} {j : Nat}
theorem EnR.J (h : EnR η τ j) (hO : EngOk τ j) : EnJ η (gA τ j) (gW τ j) (gM τ j) (gR τ j) :=
  ⟨h.1, h.2.1, ⟨hO.1.1, hO.1.2.1⟩, ⟨hO.2.1.1, hO.2.1.2.1⟩, hO.2.2.2.1.1, h.2.2.2.1.trans hO.2.2.2.1.2, fun i hi => (h.2.2.2.2.2.1 i hi).trans (hO.2.2.2.2.1 i hi).2.2⟩
theorem EnR.F (h : EnR η τ j) (hO : EngOk τ j) : EfM η (gA τ j) (gW τ j) (gF τ j) := fun a ha i hi => (h.2.2.2.2.2.2 a ha i hi).trans (hO.2.2.2.2.2 a ha i hi).2
theorem EnR.M (h : EnR η τ j) (hM : MisOk τ j) : EnM η (gA τ j) (gW τ j) (gM τ j) := fun q hq => by
  obtain ⟨t, x, w, k, h1, h2, h3, h4, h5, h6, h7, h8, h9⟩ := hM q hq
  obtain ⟨g0, g1, g2, g3⟩ := h.2.2.2.2.1 q hq
  exact ⟨x, w, k, h3, h4, h5, g1.trans h7, g2.trans h8, g3.trans h9⟩
theorem EnR.c' (h : EnR η τ j) (t : Int32) (x w k : Nat) : ∀ q, q ≤ gM τ j → cE η t x w k q = mhC τ j t x w k q
  | 0, _ => rfl
  | q + 1, hq => by
    obtain ⟨g0, g1, g2, g3⟩ := h.2.2.2.2.1 q (by omega)
    rw [cE, mhC, EnR.c' h t x w k q (by omega), g0, g1, g2, g3]
theorem EnR.c (h : EnR η τ j) (t : Int32) (x w k : Nat) : cE η t x w k (gM τ j) = mhN τ j t false x w k := (h.c' t x w k _ (Nat.le_refl _)).trans (if_neg (by decide)).symm
/-- the same at an engine's places -/
def SmE (τ' τ : Tw) (e : Nat) : Prop := (τ'.2.2.1 6 e = τ.2.2.1 6 e ∧ τ'.2.2.1 7 e = τ.2.2.1 7 e ∧ τ'.2.2.1 8 e = τ.2.2.1 8 e ∧ τ'.2.2.1 12 e = τ.2.2.1 12 e) ∧ (∀ i, i < 12 → τ'.2.2.1 9 (12 * e + i) = τ.2.2.1 9 (12 * e + i)) ∧ (∀ i, i < 84 → τ'.2.2.1 10 (84 * e + i) = τ.2.2.1 10 (84 * e + i)) ∧
  ∀ i, i < 20 → τ'.2.2.1 13 (20 * e + i) = τ.2.2.1 13 (20 * e + i) ∧ τ'.2.2.1 14 (20 * e + i) = τ.2.2.1 14 (20 * e + i) ∧ τ'.2.2.1 15 (20 * e + i) = τ.2.2.1 15 (20 * e + i) ∧ τ'.2.2.1 16 (20 * e + i) = τ.2.2.1 16 (20 * e + i)
theorem SmE.g (h : SmE τ' τ j) : gA τ' j = gA τ j ∧ gW τ' j = gW τ j ∧ gU τ' j = gU τ j ∧ gM τ' j = gM τ j := by
  unfold gA gW gU gM
  rw [h.1.1, h.1.2.1, h.1.2.2.1, h.1.2.2.2]
  exact ⟨rfl, rfl, rfl, rfl⟩
theorem SmE.f (h : SmE τ' τ j) {x i : Nat} (hx : x < 7) (hi : i < 12) : τ'.2.2.1 10 (12 * (7 * j + x) + i) = τ.2.2.1 10 (12 * (7 * j + x) + i) := by
  rw [show 12 * (7 * j + x) + i = 84 * j + (12 * x + i) by omega]; exact h.2.2.1 _ (by omega)
theorem SmE.ok (h : SmE τ' τ j) (hO : EngOk τ j) : EngOk τ' j := by
  obtain ⟨⟨a1, a2, a3⟩, ⟨b1, b2, b3⟩, ⟨c1, c2⟩, ⟨d1, d2⟩, e1, f1⟩ := hO
  obtain ⟨ga, gw, gu, gm⟩ := h.g
  have er : ∀ i, i < 12 → gR τ' j i = gR τ j i := fun i hi => by unfold gR; rw [h.2.1 i hi]
  have ef : ∀ x i, x < 7 → i < 12 → gF τ' j x i = gF τ j x i := fun x i hx hi => by show ix _ = ix _; rw [h.f hx hi]
  unfold EngOk
  rw [ga, gw, gu, gm, h.1.1, h.1.2.1, h.1.2.2.1, h.1.2.2.2]
  refine ⟨⟨a1, a2, a3⟩, ⟨b1, b2, b3⟩, ⟨c1, c2⟩, ⟨d1, d2⟩, fun i hi => ?_, fun x hx i hi => ?_⟩
  · rw [er i (by omega), h.2.1 i (by omega)]; exact e1 i hi
  · rw [er i (by omega), ef x i (by omega) (by omega), h.f (by omega) (by omega)]; exact f1 x hx i hi
theorem SmE.mis (h : SmE τ' τ j) (hO : EngOk τ j) (hM : MisOk τ j) : MisOk τ' j := by
  obtain ⟨ga, gw, gu, gm⟩ := h.g
  unfold MisOk
  rw [ga, gw, gm]
  intro m hm
  have := hO.2.2.2.1.1
  obtain ⟨q1, q2, q3, q4⟩ := h.2.2.2 m (by omega)
  rw [q1, q2, q3, q4]
  exact hM m hm
theorem SmE.R {η : En} (h : SmE τ' τ j) (hO : EngOk τ j) (hn : EnR η τ j) : EnR η τ' j := by
  obtain ⟨ga, gw, gu, gm⟩ := h.g
  obtain ⟨⟨a1, a2, a3⟩, ⟨b1, b2, b3⟩, ⟨c1, c2⟩, ⟨d1, d2⟩, e1, f1⟩ := hO
  obtain ⟨n1, n2, n3, n4, n5, n6, n7⟩ := hn
  unfold EnR
  rw [ga, gw, gm, h.1.2.2.1, h.1.2.2.2]
  refine ⟨n1, n2, n3, n4, fun m hm => ?_, fun i hi => ?_, fun a ha i hi => ?_⟩
  · obtain ⟨q1, q2, q3, q4⟩ := h.2.2.2 m (by omega)
    rw [q1, q2, q3, q4]; exact n5 m hm
  · rw [h.2.1 i (by omega)]; exact n6 i hi
  · rw [h.f (by omega) (by omega)]; exact n7 a ha i hi
theorem InvE.row (hI : InvE τ) (hj : j < gE τ) (h5 : τ'.1 5 = τ.1 5) (hs : ∀ e, e < 4 → ¬ e = j → SmE τ' τ e) (hO : EngOk τ' j) (hM : MisOk τ' j) : InvE τ' := by
  obtain ⟨g1, g2, g3, g4⟩ := hI
  have gE' : gE τ' = gE τ := by unfold gE; rw [h5]
  unfold InvE
  rw [gE', h5]
  refine ⟨g1, g2, fun e he => ?_, fun e he1 he2 => ?_⟩
  · by_cases h : e = j
    · subst h; exact ⟨hO, hM⟩
    · exact ⟨(hs e (by omega) h).ok (g3 e he).1, (hs e (by omega) h).mis (g3 e he).1 (g3 e he).2⟩
  · have hse := hs e he2 (by omega)
    rw [hse.1.2.2.1, hse.1.2.2.2]
    refine ⟨(g4 e he1 he2).1, (g4 e he1 he2).2.1, fun k hk1 hk2 => ?_⟩
    have := hse.2.2.1 (k - 84 * e) (by omega)
    rw [show 84 * e + (k - 84 * e) = k by omega] at this
    rw [this]; exact (g4 e he1 he2).2.2 k hk1 hk2
/-- an engine whose turn, mishaps and figures alone have changed -/
theorem EngOk.chg (hO : EngOk τ j) (h6 : τ'.2.2.1 6 j = τ.2.2.1 6 j) (h7 : τ'.2.2.1 7 j = τ.2.2.1 7 j) (h9 : ∀ i, i < 12 → τ'.2.2.1 9 (12 * j + i) = τ.2.2.1 9 (12 * j + i)) {u m : Nat} (hu : u ≤ 1000) (h8 : τ'.2.2.1 8 j = nI u) (hm : m ≤ 20) (h12 : τ'.2.2.1 12 j = nI m)
    {F : Mx} (hB : Bnd (gA τ j) (gW τ j) (gR τ j) F) (hF : ∀ a, a < gA τ j → ∀ i, i < gW τ j → τ'.2.2.1 10 (12 * (7 * j + a) + i) = nI (F a i)) : EngOk τ' j := by
  obtain ⟨⟨a1, a2, a3⟩, ⟨b1, b2, b3⟩, ⟨c1, c2⟩, ⟨d1, d2⟩, e1, f1⟩ := hO
  have ga : gA τ' j = gA τ j := by unfold gA; rw [h6]
  have gw : gW τ' j = gW τ j := by unfold gW; rw [h7]
  have gu : gU τ' j = u := by unfold gU; rw [h8, ix_nI (by omega)]
  have gm : gM τ' j = m := by unfold gM; rw [h12, ix_nI (by omega)]
  have er : ∀ i, i < 12 → gR τ' j i = gR τ j i := fun i hi => by unfold gR; rw [h9 i hi]
  unfold EngOk
  rw [ga, gw, gu, gm, h6, h7]
  refine ⟨⟨a1, a2, a3⟩, ⟨b1, b2, b3⟩, ⟨hu, h8⟩, ⟨hm, h12⟩, fun i hi => ?_, fun x hx i hi => ?_⟩
  · rw [er i (by omega), h9 i (by omega)]; exact e1 i hi
  · have hb := hB x hx i hi
    have := (e1 i hi).2.1
    have ef : gF τ' j x i = F x i := by
      show ix (τ'.2.2.1 10 _) = _
      rw [hF x hx i hi, ix_nI (by omega)]
    rw [er i (by omega), ef, hF x hx i hi]
    exact ⟨hb, rfl⟩
end
section
variable {ξ : Xs} {mid dyn : List ACell} {b : Nat} {η : En}
theorem xh_o (hm : mid.length = 61) (hH : HlD dyn b (enB (117 + b) η)) : (XM ξ mid dyn)[117 + b]? = some (.inr (5, enO (117 + b) η)) := (xm_d hm b).trans (hH 0 _ rfl)
theorem xh_at (hm : mid.length = 61) (hH : HlD dyn b (enB (117 + b) η)) {k : Nat} {c : ACell} (h : ∀ pre post : List ACell, pre.length = 117 + b → (EM pre η post)[pre.length + k]? = some c) : (XM ξ mid dyn)[117 + b + k]? = some c := by
  obtain ⟨pre, post, hp, hM, -⟩ := xm_em (ξ := ξ) hm hH
  rw [hM, ← hp]; exact h pre post hp
theorem xh_r (hm : mid.length = 61) (hH : HlD dyn b (enB (117 + b) η)) {W : Nat} (hW : η.2.1 = W) : (XM ξ mid dyn)[117 + b + 6]? = some (.inl (0, W, .inl η.2.2.2.2.2.2.1)) := xh_at hm hH (fun _ _ _ => em_rW hW)
theorem xh_x (hm : mid.length = 61) (hH : HlD dyn b (enB (117 + b) η)) {A : Nat} (hA : η.1 = A) : (XM ξ mid dyn)[117 + b + 7]? = some (.inl (8, A, .inr (.inr (.inr (.inr (enA (117 + b) A)))))) := xh_at hm hH (fun _ _ hp => by rw [← hp]; exact em_xA hA)
theorem xh_a (hm : mid.length = 61) (hH : HlD dyn b (enB (117 + b) η)) {A a : Nat} (hA : η.1 = A) (ha : a < A) : (XM ξ mid dyn)[117 + b + 8 + 2 * a]? = some (.inr (6, [.ref (117 + b + 9 + 2 * a)])) := by
  obtain ⟨pre, post, hp, hM, -⟩ := xm_em (ξ := ξ) hm hH
  rw [hM, ← hp]; exact em_a hA ha
theorem xh_f (hm : mid.length = 61) (hH : HlD dyn b (enB (117 + b) η)) {A W a : Nat} (hA : η.1 = A) (hW : η.2.1 = W) (ha : a < A) : (XM ξ mid dyn)[117 + b + 9 + 2 * a]? = some (.inl (0, W, .inl (η.2.2.2.2.2.2.2 a))) := by
  obtain ⟨pre, post, hp, hM, -⟩ := xm_em (ξ := ξ) hm hH
  rw [hM, ← hp]; exact em_f hA hW ha
theorem xh_fs (hm : mid.length = 61) (hH : HlD dyn b (enB (117 + b) η)) {A W a : Nat} (hA : η.1 = A) (hW : η.2.1 = W) (ha : a < A) (f : Nat → Int32) : (XM ξ mid dyn).set (117 + b + 9 + 2 * a) (.inl (0, W, .inl f)) = XM ξ mid (rpB dyn b (enB (117 + b) (nF η a f))) := by
  obtain ⟨pre, post, hp, hM, hN⟩ := xm_em (ξ := ξ) hm hH
  have e := em_fs (pre := pre) (post := post) (η := η) hA hW ha f
  rw [hp] at e
  rw [hM, e]; exact hN _ rfl
theorem xh_sM (hm : mid.length = 61) (hH : HlD dyn b (enB (117 + b) η)) (v : Int32) : (XM ξ mid dyn).set (117 + b) (.inr (5, (enO (117 + b) η).set 5 (.int v))) = XM ξ mid (rpB dyn b (enB (117 + b) (nM η v))) := by
  obtain ⟨pre, post, hp, hM, hN⟩ := xm_em (ξ := ξ) hm hH
  have e := em_sM (pre := pre) (post := post) (η := η) v
  rw [hp] at e
  rw [hM, e]; exact hN _ rfl
theorem xh_sT (hm : mid.length = 61) (hH : HlD dyn b (enB (117 + b) η)) (v : Int32) : (XM ξ mid dyn).set (117 + b) (.inr (5, (enO (117 + b) η).set 4 (.int v))) = XM ξ mid (rpB dyn b (enB (117 + b) (nT η v))) := by
  obtain ⟨pre, post, hp, hM, hN⟩ := xm_em (ξ := ξ) hm hH
  have e := em_sT (pre := pre) (post := post) (η := η) v
  rw [hp] at e
  rw [hM, e]; exact hN _ rfl
/-- a contract on an engine, in the component's memory -/
theorem xh_ct (hm : mid.length = 61) (hH : HlD dyn b (enB (117 + b) η)) {y : MethodName} {ws : List Cond} {d mc ms : Nat} {avs : List Value} {Qf : Qfun} (h : ∀ pre post : List ACell, pre.length = 117 + b → (∀ η' : En, η'.1 = η.1 → EM pre η' post = XM ξ mid (rpB dyn b (enB (117 + b) η'))) → XM ξ mid dyn = EM pre η post → Ct y ws d mc ms (.ref pre.length :: avs) (EM pre η post) Qf noX) : Ct y ws d mc ms (.ref (117 + b) :: avs) (XM ξ mid dyn) Qf noX := by
  obtain ⟨pre, post, hp, hM, hN⟩ := xm_em (ξ := ξ) hm hH
  have := h pre post hp hN hM
  rw [hp, ← hM] at this
  exact this
end
