/-! ===== the component: tray, write, read ===== -/
theorem vl_s (f : Nat → Int64) (k : Nat) (v : Int64) : vp_updL f k v k = v := if_pos rfl
theorem vl_ne {f : Nat → Int64} {k : Nat} {v : Int64} {j : Nat} (h : ¬ j = k) : vp_updL f k v j = f j := if_neg h
theorem enX_len (b : Nat) (η : En) : ∀ n, ((List.range n).flatMap (enX b η)).length = 2 * n
  | 0 => rfl
  | n + 1 => by
    rw [List.range_succ, List.flatMap_append, List.length_append, enX_len b η n]
    show 2 * n + ([_, _] ++ [] : List ACell).length = _
    show 2 * n + 2 = _
    omega
theorem enB_len (b : Nat) (η : En) : (enB b η).length = 8 + 2 * η.1 := by
  unfold enB; rw [List.length_append, enX_len]; rfl
section
variable {own own' : Nat → Nat} {ξ ξ' : Xs} {dyn dyn' : List ACell} {τ : Tw}
theorem RE.dy (h : RE own ξ dyn τ) (hx : ξ'.2.2.2.2.1 1 = ξ.2.2.2.2.1 1) (hd : ∀ k c, dyn[k]? = some c → 10 ≤ own k → dyn'[k]? = some c ∧ own' k = own k) : RE own' ξ' dyn' τ := by
  refine ⟨h.1, fun e he => ?_⟩
  obtain ⟨b, η, k1, k2, k3, k4⟩ := h.2 e he
  refine ⟨b, η, by rw [hx]; exact k1, fun k c hc => ?_, fun k hk => ?_, k4⟩
  · have hl := (List.getElem?_eq_some_iff.mp hc).1
    rw [enB_len] at hl
    exact (hd _ _ (k2 k c hc) (by rw [k3 k hl]; omega)).1
  · have hl : k < (enB (117 + b) η).length := by rw [enB_len]; exact hk
    exact (hd (b + k) _ (k2 k _ (List.getElem?_eq_getElem hl)) (by rw [k3 k hk]; omega)).2.trans (k3 k hk)
theorem RC.dy (h : RC own ξ dyn τ) (hx : ∀ p, p = 6 ∨ p = 7 → ξ'.2.2.2.2.1 p = ξ.2.2.2.2.1 p) (hp : ξ'.2.2.2.2.2.1 = ξ.2.2.2.2.2.1) (hd : ∀ k c, dyn[k]? = some c → 10 ≤ own k → dyn'[k]? = some c ∧ own' k = own k) : RC own' ξ' dyn' τ := by
  obtain ⟨g1, p, g2, g3, g4, g5⟩ := h
  refine ⟨g1, p, g2, by rw [hp]; exact g3, by rw [hp]; exact g4, fun k hk => ?_⟩
  obtain ⟨b, K, at_, v, w, q, k1, k2, k3, k4, k5⟩ := g5 k hk
  have z0 := k2 0 _ rfl
  have z1 := k2 1 _ rfl
  have y0 := hd _ _ z0 (by show 10 ≤ own b; omega)
  have y1 := hd _ _ z1 (by omega)
  refine ⟨b, K, at_, v, w, q, by rw [hx p g2]; exact k1, fun j c hc => ?_, y0.2.trans k3, y1.2.trans k4, k5⟩
  rcases j with - | - | j
  · rw [show c = _ from (Option.some.inj hc).symm]; exact y0.1
  · rw [show c = _ from (Option.some.inj hc).symm]; exact y1.1
  · cases hc
/-- a row in the memory stays, unless it is the tray's that is changed -/
theorem RT.dy (h : RT own ξ dyn τ) {t : Nat} (hx : ∀ t', t' < 4 → ¬ t' = t → ξ'.2.2.2.2.2.2 t' = ξ.2.2.2.2.2.2 t') {τ' : Tw} (h2 : ∀ t', t' < 4 → ¬ t' = t → τ'.2.2.1 2 t' = τ.2.2.1 2 t') (h3 : ∀ t', t' < 4 → ¬ t' = t → τ'.2.2.1 3 t' = τ.2.2.1 3 t') (h4 : ∀ t' k, t' < 4 → ¬ t' = t → k < 60 → τ'.2.2.2 4 (60 * t' + k) = τ.2.2.2 4 (60 * t' + k))
    (hd : ∀ k c, dyn[k]? = some c → ¬ own k = 1 + t → dyn'[k]? = some c ∧ own' k = own k) (ht : t < 4 → (τ'.2.2.1 3 t = -1 ∧ ξ'.2.2.2.2.2.2 t = (none, 0) ∧ τ'.2.2.1 2 t = 0) ∨
  ∃ s n r : Nat, ∃ g : Nat → Int64, s < 4 ∧ n ≤ 60 ∧ τ'.2.2.1 2 t = nI s ∧ τ'.2.2.1 3 t = nI n ∧ ξ'.2.2.2.2.2.2 t = (some (117 + r), nI s) ∧ dyn'[r]? = some (rowC s n g) ∧ own' r = 1 + t ∧ ∀ k, k < n → g k = τ'.2.2.2 4 (60 * t + k) ∧ fitS s (g k)) : RT own' ξ' dyn' τ' := by
  intro t' ht'
  by_cases e : t' = t
  · subst e; exact ht ht'
  · rw [h2 t' ht' e, h3 t' ht' e, hx t' ht' e]
    rcases h t' ht' with g | ⟨s, n, r, g, g1, g2, g3, g4, g5, g6, g7, g8⟩
    · exact Or.inl g
    · have z := hd r _ g6 (by rw [g7]; omega)
      refine Or.inr ⟨s, n, r, g, g1, g2, g3, g4, g5, z.1, z.2.trans g7, fun k hk => ?_⟩
      rw [h4 t' k ht' e (by omega)]
      exact g8 k hk
theorem Rel.wr (hRel : Rel own ξ dyn τ) {t s n r j : Nat} {g : Nat → Int64} (ht : t < 4) (hs : s < 4) (hn : n ≤ 60) (e2 : τ.2.2.1 2 t = nI s) (e3 : τ.2.2.1 3 t = nI n) (hTr : ξ.2.2.2.2.2.2 t = (some (117 + r), nI s)) (hD : dyn[r]? = some (rowC s n g)) (hown : own r = 1 + t) (hg : ∀ k, k < n → g k = τ.2.2.2 4 (60 * t + k) ∧ fitS s (g k)) (hj : j < n) (v : Int64) :
    Rel own ξ (dyn.set r (rowC s n (vp_updL g j (spCut (nI s) v)))) (tB τ 4 (vp_updL (τ.2.2.2 4) (60 * t + j) (spCut (nI s) v))) := by
  obtain ⟨hI, hA, hB, hW, hP, hR, hT, hE, hC, hV⟩ := hRel
  have hd : ∀ k c, dyn[k]? = some c → ¬ own k = 1 + t → (dyn.set r (rowC s n (vp_updL g j (spCut (nI s) v))))[k]? = some c ∧ own k = own k := fun k c hc ho => by
    have e : ¬ r = k := fun e => ho (by rw [← e]; exact hown)
    exact ⟨by rw [List.getElem?_set_ne e]; exact hc, rfl⟩
  refine ⟨hI, hA, hB.t 4 _ (by decide), hW, hP, hR, ?_, hE.dy rfl (fun k c hc h10 => hd k c hc (by omega)), hC.dy (fun _ _ => rfl) rfl (fun k c hc h10 => hd k c hc (by omega)), hV⟩
  have u4 : ∀ k, (tB τ 4 (vp_updL (τ.2.2.2 4) (60 * t + j) (spCut (nI s) v))).2.2.2 4 k = vp_updL (τ.2.2.2 4) (60 * t + j) (spCut (nI s) v) k := fun _ => rfl
  refine hT.dy (t := t) (fun _ _ _ => rfl) (fun _ _ _ => rfl) (fun _ _ _ => rfl) (fun t' k h1 h2 h3 => ?_) hd (fun _ => Or.inr ⟨s, n, r, vp_updL g j (spCut (nI s) v), hs, hn, e2, e3, hTr, ?_, hown, fun k hk => ?_⟩)
  · rw [u4]; exact vl_ne (by omega)
  · rw [List.getElem?_set_self (List.getElem?_eq_some_iff.mp hD).1]
  · rw [u4]
    by_cases e : k = j
    · subst e
      rw [vl_s, vl_s]
      exact ⟨rfl, spCut_fit hs v⟩
    · rw [vl_ne e, vl_ne (by omega)]
      exact hg k hk
theorem Rel.mk' (hRel : Rel own ξ dyn τ) {t s n : Nat} (ht : t < 4) (hs : s < 4) (hn : n ≤ 60) :
    Rel (fun k => if k = dyn.length then 1 + t else own k) (xT ξ t (some (117 + dyn.length), nI s)) (dyn ++ [rowC s n (fun _ => 0)]) (tB (tA (tA τ 2 (upd (τ.2.2.1 2) t (nI s))) 3 (upd (τ.2.2.1 3) t (nI n))) 4 (zroL (τ.2.2.2 4) (60 * t) n)) := by
  obtain ⟨hI, hA, hB, hW, hP, hR, hT, hE, hC, hV⟩ := hRel
  have hd : ∀ k c, dyn[k]? = some c → (dyn ++ [rowC s n (fun _ => 0)])[k]? = some c ∧ (if k = dyn.length then 1 + t else own k) = own k := fun k c hc => by
    have hl := (List.getElem?_eq_some_iff.mp hc).1
    exact ⟨by rw [List.getElem?_append_left hl]; exact hc, if_neg (by omega)⟩
  have xt : ∀ t', ¬ t' = t → (xT ξ t (some (117 + dyn.length), nI s)).2.2.2.2.2.2 t' = ξ.2.2.2.2.2.2 t' := fun t' h => va_up_ne _ _ h
  refine ⟨hI, (hA.t 2 _ (by decide)).t 3 _ (by decide), hB.t 4 _ (by decide), hW, hP, hR, ?_, RE.cg (hE.dy rfl (fun k c hc _ => hd k c hc)) rfl (fun k hk => (va_up_ne _ _ (fun z => absurd (z ▸ hk) (by decide))).trans (va_up_ne _ _ (fun z => absurd (z ▸ hk) (by decide)))), RC.cg (hC.dy (fun _ _ => rfl) rfl (fun k c hc _ => hd k c hc)) rfl (fun k hk => (va_up_ne _ _ (fun z => absurd (z ▸ hk) (by decide))).trans (va_up_ne _ _ (fun z => absurd (z ▸ hk) (by decide)))) rfl, ?_⟩
  · have u2 : ∀ t', (tB (tA (tA τ 2 (upd (τ.2.2.1 2) t (nI s))) 3 (upd (τ.2.2.1 3) t (nI n))) 4 (zroL (τ.2.2.2 4) (60 * t) n)).2.2.1 2 t' = upd (τ.2.2.1 2) t (nI s) t' := fun _ => rfl
    have u3 : ∀ t', (tB (tA (tA τ 2 (upd (τ.2.2.1 2) t (nI s))) 3 (upd (τ.2.2.1 3) t (nI n))) 4 (zroL (τ.2.2.2 4) (60 * t) n)).2.2.1 3 t' = upd (τ.2.2.1 3) t (nI n) t' := fun _ => rfl
    have u4 : ∀ k, (tB (tA (tA τ 2 (upd (τ.2.2.1 2) t (nI s))) 3 (upd (τ.2.2.1 3) t (nI n))) 4 (zroL (τ.2.2.2 4) (60 * t) n)).2.2.2 4 k = zroL (τ.2.2.2 4) (60 * t) n k := fun _ => rfl
    refine hT.dy (t := t) (fun t' _ h => xt t' h) (fun t' _ h => (u2 t').trans (pk_un h)) (fun t' _ h => (u3 t').trans (pk_un h)) (fun t' k h1 h2 h3 => ?_) (fun k c hc _ => hd k c hc) (fun _ => Or.inr ⟨s, n, dyn.length, (fun _ => 0), hs, hn, (u2 t).trans (pk_us), (u3 t).trans (pk_us), va_up_self _ _ _, ?_, if_pos rfl, fun k hk => ?_⟩)
    · rw [u4]; unfold zroL; exact if_neg (by omega)
    · rw [List.getElem?_append_right (Nat.le_refl _), Nat.sub_self]; rfl
    · rw [u4]
      unfold zroL
      rw [if_pos (by omega)]
      refine ⟨rfl, ?_⟩
      show spCut (nI s) 0 = 0
      rcases (show s = 0 ∨ s = 1 ∨ s = 2 ∨ s = 3 by omega) with rfl | rfl | rfl | rfl <;> decide
  · obtain ⟨hVT, hV⟩ := hV
    refine ⟨fun t' ht' => ?_, hV⟩
    by_cases e : t' = t
    · subst e
      exact ⟨Or.inr ⟨n, hn, pk_us⟩, s, hs, pk_us⟩
    · have := hVT t' ht'
      refine ⟨?_, ?_⟩
      · show upd (τ.2.2.1 3) t _ t' = _ ∨ ∃ n', n' ≤ 60 ∧ upd (τ.2.2.1 3) t _ t' = _
        rw [pk_un e]; exact this.1
      · show ∃ s', s' < 4 ∧ upd (τ.2.2.1 2) t _ t' = _
        rw [pk_un e]; exact this.2
end
set_option maxHeartbeats 4000000 in
set_option maxRecDepth 100000 in
theorem y_get {ξ : Xs} {mid dyn : List ACell} {τ : Tw} {own : Nat → Nat} (hm : mid.length = 61) (hRel : Rel own ξ dyn τ) {t : Nat} (ht : t < 4) {i : Int32} : Ct yX3_get (ws_ yX3_get cX3_get 2 (some .long)) 0 3 222 [.ref (52 + t), .int i] (XM ξ mid dyn) (fun u M' => M' = XM ξ mid dyn ∧ ∃ n j, n ≤ 60 ∧ j < n ∧ i = nI j ∧ τ.2.2.1 3 t = nI n ∧ u = some (.long (τ.2.2.2 4 (60 * t + j)))) (fun c _ M' => ((c = "java/lang/NullPointerException" ∧ τ.2.2.1 3 t = -1) ∨ (c = "java/lang/ArrayIndexOutOfBoundsException" ∧ ∃ n, n ≤ 60 ∧ τ.2.2.1 3 t = nI n ∧ ¬ vp_in i n)) ∧ M' = XM ξ mid dyn) := by
  obtain ⟨hI, hA, hB, hW, hP, hR, hT, hE, hC, hV⟩ := id hRel
  rcases hT t ht with ⟨e3, hTr, e2⟩ | ⟨s, n, r, g, hs, hn, e2, e3, hTr, hD, hown, hg⟩
  · exact Ct.mono (y_getN ht hTr) (fun _ _ h => h.elim) (fun c w M h => ⟨Or.inl ⟨h.1, e3⟩, h.2⟩)
  · by_cases hin : vp_in i n
    · obtain ⟨j, hj, rfl⟩ := vp_inE hin
      rcases (show s = 0 ∨ s = 1 ∨ s = 2 ∨ s = 3 by omega) with rfl | rfl | rfl | rfl
      · refine Ct.mono (y_get0 hm ht hn hTr hD hj) (fun u M h => ?_) (fun c w M h => h.elim)
        exact ⟨h.1, n, j, hn, hj, rfl, e3, by rw [h.2, rgv_fit hs (hg j hj).2, (hg j hj).1]⟩
      · refine Ct.mono (y_get1 hm ht hn hTr hD hj) (fun u M h => ?_) (fun c w M h => h.elim)
        exact ⟨h.1, n, j, hn, hj, rfl, e3, by rw [h.2, rgv_fit hs (hg j hj).2, (hg j hj).1]⟩
      · refine Ct.mono (y_get2 hm ht hn hTr hD hj) (fun u M h => ?_) (fun c w M h => h.elim)
        exact ⟨h.1, n, j, hn, hj, rfl, e3, by rw [h.2, rgv_fit hs (hg j hj).2, (hg j hj).1]⟩
      · refine Ct.mono (y_get3 hm ht hn hTr hD hj) (fun u M h => ?_) (fun c w M h => h.elim)
        exact ⟨h.1, n, j, hn, hj, rfl, e3, by rw [h.2, rgv_fit hs (hg j hj).2, (hg j hj).1]⟩
    · rcases (show s = 0 ∨ s = 1 ∨ s = 2 ∨ s = 3 by omega) with rfl | rfl | rfl | rfl
      · exact Ct.mono (y_getZ0 hm ht hn hTr hD hin) (fun u M h => h.elim) (fun c w M h => ⟨Or.inr ⟨h.1, n, hn, e3, h.2.1⟩, h.2.2⟩)
      · exact Ct.mono (y_getZ1 hm ht hn hTr hD hin) (fun u M h => h.elim) (fun c w M h => ⟨Or.inr ⟨h.1, n, hn, e3, h.2.1⟩, h.2.2⟩)
      · exact Ct.mono (y_getZ2 hm ht hn hTr hD hin) (fun u M h => h.elim) (fun c w M h => ⟨Or.inr ⟨h.1, n, hn, e3, h.2.1⟩, h.2.2⟩)
      · exact Ct.mono (y_getZ3 hm ht hn hTr hD hin) (fun u M h => h.elim) (fun c w M h => ⟨Or.inr ⟨h.1, n, hn, e3, h.2.1⟩, h.2.2⟩)

set_option maxHeartbeats 4000000 in
set_option maxRecDepth 100000 in
theorem y_set {ξ : Xs} {mid dyn : List ACell} {τ : Tw} {own : Nat → Nat} (hm : mid.length = 61) (hRel : Rel own ξ dyn τ) {t : Nat} (ht : t < 4) {i : Int32} {v : Int64} : Ct yX3_set (ws_ yX3_set cX3_set 4 none) 0 3 222 [.ref (52 + t), .int i, .long v] (XM ξ mid dyn) (fun u M' => u = none ∧ ∃ dyn' n j, n ≤ 60 ∧ j < n ∧ i = nI j ∧ τ.2.2.1 3 t = nI n ∧ M' = XM ξ mid dyn' ∧ Rel own ξ dyn' (tB τ 4 (vp_updL (τ.2.2.2 4) (60 * t + j) (spCut (τ.2.2.1 2 t) v)))) (fun c _ M' => ((c = "java/lang/NullPointerException" ∧ τ.2.2.1 3 t = -1) ∨ (c = "java/lang/ArrayIndexOutOfBoundsException" ∧ ∃ n, n ≤ 60 ∧ τ.2.2.1 3 t = nI n ∧ ¬ vp_in i n)) ∧ M' = XM ξ mid dyn) := by
  obtain ⟨hI, hA, hB, hW, hP, hR, hT, hE, hC, hV⟩ := id hRel
  rcases hT t ht with ⟨e3, hTr, e2⟩ | ⟨s, n, r, g, hs, hn, e2, e3, hTr, hD, hown, hg⟩
  · exact Ct.mono (y_setN ht hTr) (fun _ _ h => h.elim) (fun c w M h => ⟨Or.inl ⟨h.1, e3⟩, h.2⟩)
  · by_cases hin : vp_in i n
    · obtain ⟨j, hj, rfl⟩ := vp_inE hin
      rcases (show s = 0 ∨ s = 1 ∨ s = 2 ∨ s = 3 by omega) with rfl | rfl | rfl | rfl
      · refine Ct.mono (y_set0 hm ht hn hTr hD hj) (fun u M h => ?_) (fun c w M h => h.elim)
        refine ⟨h.2, _, n, j, hn, hj, rfl, e3, h.1, ?_⟩
        rw [e2]
        exact hRel.wr ht hs hn e2 e3 hTr hD hown hg hj v
      · refine Ct.mono (y_set1 hm ht hn hTr hD hj) (fun u M h => ?_) (fun c w M h => h.elim)
        refine ⟨h.2, _, n, j, hn, hj, rfl, e3, h.1, ?_⟩
        rw [e2]
        exact hRel.wr ht hs hn e2 e3 hTr hD hown hg hj v
      · refine Ct.mono (y_set2 hm ht hn hTr hD hj) (fun u M h => ?_) (fun c w M h => h.elim)
        refine ⟨h.2, _, n, j, hn, hj, rfl, e3, h.1, ?_⟩
        rw [e2]
        exact hRel.wr ht hs hn e2 e3 hTr hD hown hg hj v
      · refine Ct.mono (y_set3 hm ht hn hTr hD hj) (fun u M h => ?_) (fun c w M h => h.elim)
        refine ⟨h.2, _, n, j, hn, hj, rfl, e3, h.1, ?_⟩
        rw [e2]
        exact hRel.wr ht hs hn e2 e3 hTr hD hown hg hj v
    · rcases (show s = 0 ∨ s = 1 ∨ s = 2 ∨ s = 3 by omega) with rfl | rfl | rfl | rfl
      · exact Ct.mono (y_setZ0 hm ht hn hTr hD hin) (fun u M h => h.elim) (fun c w M h => ⟨Or.inr ⟨h.1, n, hn, e3, h.2.1⟩, h.2.2⟩)
      · exact Ct.mono (y_setZ1 hm ht hn hTr hD hin) (fun u M h => h.elim) (fun c w M h => ⟨Or.inr ⟨h.1, n, hn, e3, h.2.1⟩, h.2.2⟩)
      · exact Ct.mono (y_setZ2 hm ht hn hTr hD hin) (fun u M h => h.elim) (fun c w M h => ⟨Or.inr ⟨h.1, n, hn, e3, h.2.1⟩, h.2.2⟩)
      · exact Ct.mono (y_setZ3 hm ht hn hTr hD hin) (fun u M h => h.elim) (fun c w M h => ⟨Or.inr ⟨h.1, n, hn, e3, h.2.1⟩, h.2.2⟩)

set_option maxHeartbeats 4000000 in
set_option maxRecDepth 100000 in
theorem y_make {ξ : Xs} {mid dyn : List ACell} {τ : Tw} {own : Nat → Nat} (hm : mid.length = 61) (hRel : Rel own ξ dyn τ) {t : Nat} (ht : t < 4) {s : Nat} (hs : s < 4) {n : Int32} (hn : n ≤ 60) : Ct yX3_make (ws_ yX3_make cX3_make 4 none) 0 3 60 [.ref (52 + t), .int (nI s), .int n] (XM ξ mid dyn)
    (fun u M' => u = none ∧ ∃ q ξ' dyn' own', q ≤ 60 ∧ n = nI q ∧ M' = XM ξ' mid dyn' ∧ Rel own' ξ' dyn' (tB (tA (tA τ 2 (upd (τ.2.2.1 2) t (nI s))) 3 (upd (τ.2.2.1 3) t (nI q))) 4 (zroL (τ.2.2.2 4) (60 * t) q)))
    (fun c _ M' => c = "java/lang/NegativeArraySizeException" ∧ n < 0 ∧ M' = XM ξ mid dyn) := by
  by_cases h0 : n < 0
  · rcases (show s = 0 ∨ s = 1 ∨ s = 2 ∨ s = 3 by omega) with rfl | rfl | rfl | rfl
    · exact Ct.mono (y_makeZ0 hm ht h0) (fun _ _ h => h.elim) (fun c w M h => h)
    · exact Ct.mono (y_makeZ1 hm ht h0) (fun _ _ h => h.elim) (fun c w M h => h)
    · exact Ct.mono (y_makeZ2 hm ht h0) (fun _ _ h => h.elim) (fun c w M h => h)
    · exact Ct.mono (y_makeZ3 hm ht h0) (fun _ _ h => h.elim) (fun c w M h => h)
  · obtain ⟨q, hq, rfl⟩ := in_le 60 (by decide) h0 hn
    rcases (show s = 0 ∨ s = 1 ∨ s = 2 ∨ s = 3 by omega) with rfl | rfl | rfl | rfl
    · exact Ct.mono (y_make0 hm ht hq) (fun u M h => ⟨h.1, q, _, _, _, hq, rfl, h.2, hRel.mk' ht (by omega) hq⟩) (fun c w M h => h.elim)
    · exact Ct.mono (y_make1 hm ht hq) (fun u M h => ⟨h.1, q, _, _, _, hq, rfl, h.2, hRel.mk' ht (by omega) hq⟩) (fun c w M h => h.elim)
    · exact Ct.mono (y_make2 hm ht hq) (fun u M h => ⟨h.1, q, _, _, _, hq, rfl, h.2, hRel.mk' ht (by omega) hq⟩) (fun c w M h => h.elim)
    · exact Ct.mono (y_make3 hm ht hq) (fun u M h => ⟨h.1, q, _, _, _, hq, rfl, h.2, hRel.mk' ht (by omega) hq⟩) (fun c w M h => h.elim)
