/-! ===== the component: an engine in the memory ===== -/
set_option maxRecDepth 100000
def nT (η : En) (v : Int32) : En := (η.1, η.2.1, v, η.2.2.2)
def nM (η : En) (v : Int32) : En := (η.1, η.2.1, η.2.2.1, v, η.2.2.2.2)
def nK (η : En) (j : Nat) (f : Nat → Int32) : En := (η.1, η.2.1, η.2.2.1, η.2.2.2.1, va_up η.2.2.2.2.1 j f, η.2.2.2.2.2)
def nW (η : En) (f : Nat → Int32) : En := (η.1, η.2.1, η.2.2.1, η.2.2.2.1, η.2.2.2.2.1, f, η.2.2.2.2.2.2)
def nF (η : En) (a : Nat) (f : Nat → Int32) : En := (η.1, η.2.1, η.2.2.1, η.2.2.2.1, η.2.2.2.2.1, η.2.2.2.2.2.1, η.2.2.2.2.2.2.1, va_up η.2.2.2.2.2.2.2 a f)
/-- an engine between other cells -/
def EM (pre : List ACell) (η : En) (post : List ACell) : List ACell := pre ++ (enB pre.length η ++ post)
theorem enX_get (b : Nat) (η : En) : ∀ n a, a < n → ((List.range n).flatMap (enX b η))[2 * a]? = some (.inr (6, [.ref (b + 9 + 2 * a)])) ∧ ((List.range n).flatMap (enX b η))[2 * a + 1]? = some (.inl (0, η.2.1, .inl (η.2.2.2.2.2.2.2 a)))
  | 0, _, h => absurd h (by omega)
  | n + 1, a, h => by
    rw [List.range_succ, List.flatMap_append]
    by_cases e : a < n
    · rw [List.getElem?_append_left (by rw [enX_len]; omega), List.getElem?_append_left (by rw [enX_len]; omega)]
      exact enX_get b η n a e
    · obtain rfl : a = n := by omega
      rw [List.getElem?_append_right (by rw [enX_len]; omega), List.getElem?_append_right (by rw [enX_len]; omega), enX_len, show 2 * a - 2 * a = 0 by omega, show 2 * a + 1 - 2 * a = 1 by omega]
      exact ⟨rfl, rfl⟩
theorem enX_set (b : Nat) (η : En) (n a : Nat) (f : Nat → Int32) (h : a < n) : ((List.range n).flatMap (enX b η)).set (2 * a + 1) (.inl (0, η.2.1, .inl f)) = (List.range n).flatMap (enX b (nF η a f)) := by
  refine List.ext_getElem? (fun i => ?_)
  by_cases hi : i < 2 * n
  · rcases (show i = 2 * (i / 2) ∨ i = 2 * (i / 2) + 1 by omega) with e | e
    · rw [List.getElem?_set_ne (by omega), e, (enX_get b η n (i / 2) (by omega)).1, (enX_get b (nF η a f) n (i / 2) (by omega)).1]
    · by_cases e2 : i / 2 = a
      · rw [show i = 2 * a + 1 by omega, List.getElem?_set_self (by rw [enX_len]; omega), (enX_get b (nF η a f) n a h).2]
        exact congrArg (fun z => some (Sum.inl (0, η.2.1, Sum.inl z))) (va_up_self _ _ _).symm
      · rw [List.getElem?_set_ne (by omega), e, (enX_get b η n (i / 2) (by omega)).2, (enX_get b (nF η a f) n (i / 2) (by omega)).2]
        exact congrArg (fun z => some (Sum.inl (0, η.2.1, Sum.inl z))) (va_up_ne _ _ e2).symm
  · rw [List.getElem?_eq_none (by rw [List.length_set, enX_len]; omega), List.getElem?_eq_none (by rw [enX_len]; omega)]
section
variable {pre post : List ACell} {η : En}
theorem em_at {k : Nat} {c : ACell} (h : (enB pre.length η)[k]? = some c) : (EM pre η post)[pre.length + k]? = some c := by
  have hl := (List.getElem?_eq_some_iff.mp h).1
  rw [EM, List.getElem?_append_right (by omega), show pre.length + k - pre.length = k by omega, List.getElem?_append_left hl]
  exact h
theorem em_set {k : Nat} {c : ACell} (hk : k < 8 + 2 * η.1) {η' : En} (h : (enB pre.length η).set k c = enB pre.length η') : (EM pre η post).set (pre.length + k) c = EM pre η' post := by
  rw [EM, List.set_append_right _ _ (by omega), show pre.length + k - pre.length = k by omega, List.set_append_left _ _ (by rw [enB_len]; exact hk), h, EM]
theorem em_len : (EM pre η post).length = pre.length + (8 + 2 * η.1 + post.length) := by
  rw [EM, List.length_append, List.length_append, enB_len]
theorem em_o : (EM pre η post)[pre.length]? = some (.inr (5, enO pre.length η)) := em_at (k := 0) rfl
theorem em_x : (EM pre η post)[pre.length + 7]? = some (.inl (8, η.1, .inr (.inr (.inr (.inr (enA pre.length η.1)))))) := em_at (k := 7) rfl
theorem em_r : (EM pre η post)[pre.length + 6]? = some (.inl (0, η.2.1, .inl η.2.2.2.2.2.2.1)) := em_at (k := 6) rfl
theorem em_w : (EM pre η post)[pre.length + 5]? = some (.inl (4, 12, .inl η.2.2.2.2.2.1)) := em_at (k := 5) rfl
theorem em_k1 : (EM pre η post)[pre.length + 1]? = some (.inl (0, 20, .inl (η.2.2.2.2.1 0))) := em_at (k := 1) rfl
theorem em_k2 : (EM pre η post)[pre.length + 2]? = some (.inl (0, 20, .inl (η.2.2.2.2.1 1))) := em_at (k := 2) rfl
theorem em_k3 : (EM pre η post)[pre.length + 3]? = some (.inl (0, 20, .inl (η.2.2.2.2.1 2))) := em_at (k := 3) rfl
theorem em_k4 : (EM pre η post)[pre.length + 4]? = some (.inl (0, 20, .inl (η.2.2.2.2.1 3))) := em_at (k := 4) rfl
theorem em_a {A a : Nat} (hA : η.1 = A) (ha : a < A) : (EM pre η post)[pre.length + 8 + 2 * a]? = some (.inr (6, [.ref (pre.length + 9 + 2 * a)])) := by
  subst hA
  rw [show pre.length + 8 + 2 * a = pre.length + (8 + 2 * a) by omega]
  refine em_at ?_
  rw [enB, List.getElem?_append_right (by show 8 ≤ _; omega)]
  show ((List.range η.1).flatMap (enX pre.length η))[8 + 2 * a - 8]? = _
  rw [show 8 + 2 * a - 8 = 2 * a by omega]
  exact (enX_get _ _ _ _ ha).1
theorem em_f {A W a : Nat} (hA : η.1 = A) (hW : η.2.1 = W) (ha : a < A) : (EM pre η post)[pre.length + 9 + 2 * a]? = some (.inl (0, W, .inl (η.2.2.2.2.2.2.2 a))) := by
  subst hA; subst hW
  rw [show pre.length + 9 + 2 * a = pre.length + (9 + 2 * a) by omega]
  refine em_at ?_
  rw [enB, List.getElem?_append_right (by show 8 ≤ _; omega)]
  show ((List.range η.1).flatMap (enX pre.length η))[9 + 2 * a - 8]? = _
  rw [show 9 + 2 * a - 8 = 2 * a + 1 by omega]
  exact (enX_get _ _ _ _ ha).2
theorem em_fs {A W a : Nat} (hA : η.1 = A) (hW : η.2.1 = W) (ha : a < A) (f : Nat → Int32) : (EM pre η post).set (pre.length + 9 + 2 * a) (.inl (0, W, .inl f)) = EM pre (nF η a f) post := by
  subst hA; subst hW
  rw [show pre.length + 9 + 2 * a = pre.length + (9 + 2 * a) by omega]
  refine em_set (by omega) ?_
  rw [enB, List.set_append_right _ _ (by show 8 ≤ _; omega)]
  show _ ++ ((List.range η.1).flatMap (enX pre.length η)).set (9 + 2 * a - 8) _ = _
  rw [show 9 + 2 * a - 8 = 2 * a + 1 by omega, enX_set _ _ _ _ _ ha]
  rfl
theorem enX_cg {b : Nat} {η η' : En} (h1 : η'.2.1 = η.2.1) (h2 : η'.2.2.2.2.2.2.2 = η.2.2.2.2.2.2.2) : enX b η' = enX b η := by
  funext a; unfold enX; rw [h1, h2]
theorem em_sT (v : Int32) : (EM pre η post).set pre.length (.inr (5, (enO pre.length η).set 4 (.int v))) = EM pre (nT η v) post := em_set (k := 0) (by omega) rfl
theorem em_sM (v : Int32) : (EM pre η post).set pre.length (.inr (5, (enO pre.length η).set 5 (.int v))) = EM pre (nM η v) post := em_set (k := 0) (by omega) rfl
theorem em_sW (f : Nat → Int32) : (EM pre η post).set (pre.length + 5) (.inl (4, 12, .inl f)) = EM pre (nW η f) post := em_set (k := 5) (by omega) rfl
theorem em_s1 (f : Nat → Int32) : (EM pre η post).set (pre.length + 1) (.inl (0, 20, .inl f)) = EM pre (nK η 0 f) post := em_set (k := 1) (by omega) rfl
theorem em_s2 (f : Nat → Int32) : (EM pre η post).set (pre.length + 2) (.inl (0, 20, .inl f)) = EM pre (nK η 1 f) post := em_set (k := 2) (by omega) rfl
theorem em_s3 (f : Nat → Int32) : (EM pre η post).set (pre.length + 3) (.inl (0, 20, .inl f)) = EM pre (nK η 2 f) post := em_set (k := 3) (by omega) rfl
theorem em_s4 (f : Nat → Int32) : (EM pre η post).set (pre.length + 4) (.inl (0, 20, .inl f)) = EM pre (nK η 3 f) post := em_set (k := 4) (by omega) rfl
theorem enA_at {b A a : Nat} (h : a < A) : enA b A a = some (b + 8 + 2 * a) := if_pos h
end
