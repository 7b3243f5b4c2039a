/-! ===== the component: words ===== -/
/-- a number by its figures to 32 -/
def encD (g : Nat → Int) : Nat → Int
  | 0 => 0
  | i + 1 => encD g i * 32 + g i
theorem encD_ge {g : Nat → Int} : ∀ L, (∀ i, i < L → 1 ≤ g i ∧ g i ≤ 26) → (L : Int) ≤ encD g L
  | 0, _ => Int.le_refl _
  | L + 1, h => by
    have h1 := encD_ge L (fun i hi => h i (by omega))
    have h2 := h L (by omega)
    rw [encD]
    omega
theorem encD_inj {g k : Nat → Int} : ∀ L M, (∀ i, i < L → 1 ≤ g i ∧ g i ≤ 26) → (∀ i, i < M → 1 ≤ k i ∧ k i ≤ 26) → encD g L = encD k M → L = M ∧ ∀ i, i < L → g i = k i
  | 0, 0, _, _, _ => ⟨rfl, fun i hi => absurd hi (Nat.not_lt_zero i)⟩
  | 0, M + 1, _, h2, e => by
    have := encD_ge (M + 1) h2
    rw [← e] at this
    rw [show encD g 0 = 0 from rfl] at this
    omega
  | L + 1, 0, h1, _, e => by
    have := encD_ge (L + 1) h1
    rw [e] at this
    rw [show encD k 0 = 0 from rfl] at this
    omega
  | L + 1, M + 1, h1, h2, e => by
    rw [encD, encD] at e
    have a1 := h1 L (by omega)
    have a2 := h2 M (by omega)
    have e1 : encD g L = encD k M := by omega
    have e2 : g L = k M := by omega
    obtain ⟨r1, r2⟩ := encD_inj L M (fun i hi => h1 i (by omega)) (fun i hi => h2 i (by omega)) e1
    subst r1
    refine ⟨rfl, fun i hi => ?_⟩
    by_cases z : i = L
    · rw [z]; exact e2
    · exact r2 i (by omega)
theorem encD_lt {g : Nat → Int} : ∀ L, L ≤ 12 → (∀ i, i < L → 1 ≤ g i ∧ g i ≤ 26) → 0 ≤ encD g L ∧ encD g L < 32 ^ L
  | 0, _, _ => ⟨Int.le_refl _, by show (0 : Int) < 1; decide⟩
  | L + 1, hL, h => by
    have h1 := encD_lt L (by omega) (fun i hi => h i (by omega))
    have h2 := h L (by omega)
    rw [encD, Int.pow_succ]
    omega
theorem p32 {d : Nat} (h : d ≤ 12) : (32 : Int) ^ d ≤ 1152921504606846976 := by
  have e : ∀ d, d < 13 → (32 : Int) ^ d ≤ 1152921504606846976 := by decide +kernel
  exact e d (by omega)
section
variable {f : Nat → Int32} {n a : Nat}
def lgD (f : Nat → Int32) (n a : Nat) : Nat → Int := fun i => (lkN f n (a + i)).toInt - 96
/-- what a word read up to e tells -/
def WdP (f : Nat → Int32) (n a e : Nat) (w : Int64) : Prop := a ≤ e ∧ (∀ i, i < e - a → isLt (lkN f n (a + i))) ∧ (e ≤ a + 12 → w.toInt = encD (lgD f n a) (e - a)) ∧ (a + 12 < e → w = -1)
theorem lgD_ok {L : Nat} (h : ∀ i, i < L → isLt (lkN f n (a + i))) : ∀ i, i < L → 1 ≤ lgD f n a i ∧ lgD f n a i ≤ 26 := fun i hi => by
  have h1 : (97 : Int) ≤ (lkN f n (a + i)).toInt := Int32.le_iff_toInt_le.mp (h i hi).1
  have h2 : (lkN f n (a + i)).toInt ≤ 122 := Int32.le_iff_toInt_le.mp (h i hi).2
  unfold lgD
  omega
theorem wdN_val : ∀ (m e : Nat) (w : Int64), WdP f n a e w → WdP f n a (wdN f n a m e w).1 (wdN f n a m e w).2
  | 0, _, _, h => h
  | m + 1, e, w, h => by
    rw [wdN]
    split
    · rename_i hl
      refine wdN_val m (e + 1) _ ?_
      obtain ⟨h1, h2, h3, h4⟩ := h
      have hl' : ∀ i, i < e + 1 - a → isLt (lkN f n (a + i)) := fun i hi => by
        by_cases z : i = e - a
        · rw [z, show a + (e - a) = e by omega]; exact hl
        · exact h2 i (by omega)
      refine ⟨by omega, hl', fun h5 => ?_, fun h5 => if_neg (by omega)⟩
      rw [if_pos (by omega), show e + 1 - a = (e - a) + 1 by omega, encD]
      have hw := h3 (by omega)
      have hb := encD_lt (e - a) (by omega) (lgD_ok h2)
      have hb1 := encD_lt (e + 1 - a) (by omega) (lgD_ok hl')
      rw [show e + 1 - a = (e - a) + 1 by omega, encD] at hb1
      have hp := p32 (d := e - a) (by omega)
      have hp1 := p32 (d := e - a + 1) (by omega)
      have hd := lgD_ok hl' (e - a) (by omega)
      have hdv : lgD f n a (e - a) = (lkN f n e).toInt - 96 := by unfold lgD; rw [show a + (e - a) = e by omega]
      rw [Int64.toInt_sub, Int64.toInt_add, Int64.toInt_mul, hw, show (32 : Int64).toInt = 32 from rfl, show (96 : Int64).toInt = 96 from rfl, Int32.toInt_toInt64]
      rw [Int.bmod_eq_of_le (n := encD (lgD f n a) (e - a) * 32) (by omega) (by omega), Int.bmod_eq_of_le (n := encD (lgD f n a) (e - a) * 32 + (lkN f n e).toInt) (by omega) (by omega), Int.bmod_eq_of_le (by omega) (by omega), hdv]
      omega
    · exact h
theorem WdP.z : WdP f n a a 0 := ⟨Nat.le_refl _, fun i hi => absurd hi (by omega), fun _ => by rw [Nat.sub_self]; rfl, fun h => absurd h (by omega)⟩
/-- the token is one of the text -/
def TkG (f : Nat → Int32) (n : Nat) (t : Tok) : Prop := TkW n t ∧ (t.1 = 1 → WdP f n t.2.1 t.2.2.1 t.2.2.2) ∧ (t.1 = 2 → nvI t.2.1 t.2.2.1 t.2.2.2 t.2.2.2 ∧ t.2.2.1 ≤ t.2.1 + 12)
theorem nuN_val {a : Nat} : ∀ (m e : Nat) (w : Int64), a ≤ e → nvI a e w w → nvI a (nuN f n a m e w).1 (nuN f n a m e w).2 (nuN f n a m e w).2
  | 0, _, _, _, h => h
  | m + 1, e, w, ha, h => by
    rw [nuN]
    split
    · rename_i hl
      refine nuN_val m (e + 1) _ (by omega) (fun h5 => ?_)
      obtain ⟨h1, h2, h3⟩ := (h.s ha hl) h5
      exact ⟨rfl, h2, h3⟩
    · exact h
theorem TkG.of {p : Nat} (hp : p ≤ n) : TkG f n (tokN f n p) := by
  refine ⟨(tokN_w hp).1, fun h => ?_, fun h => ?_⟩
  · revert h
    unfold tokN
    generalize skN f n 501 p = a
    unfold tokA
    split
    · intro h; exact absurd (show (0 : Nat) = 1 from h) (by decide)
    · split
      · intro _; exact wdN_val 501 a 0 WdP.z
      · split
        · intro h; revert h; show (if _ then 4 else 2) = 1 → _; split <;> intro h <;> exact absurd h (by decide)
        · intro h; revert h; show (if _ then 3 else 4) = 1 → _; split <;> intro h <;> exact absurd h (by decide)
  · revert h
    unfold tokN
    generalize skN f n 501 p = a
    unfold tokA
    split
    · intro h; exact absurd (show (0 : Nat) = 2 from h) (by decide)
    · split
      · intro h; exact absurd (show (1 : Nat) = 2 from h) (by decide)
      · split
        · intro h
          refine ⟨nuN_val 501 a 0 (Nat.le_refl _) (nvI.z a), ?_⟩
          show (nuN f n a 501 a 0).1 ≤ a + 12
          by_cases z : a + 12 < (nuN f n a 501 a 0).1
          · exact absurd (show (if a + 12 < (nuN f n a 501 a 0).1 then 4 else 2) = 2 from h) (by rw [if_pos z]; decide)
          · omega
        · intro h; revert h; show (if _ then 3 else 4) = 2 → _; split <;> intro h <;> exact absurd h (by decide)
end
/-- the word at hand is a stretch of a string -/
def isW (f : Nat → Int32) (n j k e : Nat) (t : Tok) : Prop := t.1 = 1 ∧ e - k = t.2.2.1 - t.2.1 ∧ ∀ i, i < e - k → chS j (k + i) = lkN f n (t.2.1 + i)
def WOK (j k e : Nat) (w : Int64) : Prop := j < 4 ∧ (k ≤ e ∧ e ≤ glLen.getD j 0) ∧ e - k ≤ 12 ∧ w.toInt = encD (fun i => (chS j (k + i)).toInt - 96) (e - k) ∧ (∀ i, i < e - k → isLt (chS j (k + i))) ∧ ¬ w = -1
theorem wd_core {f : Nat → Int32} {n m : Nat} {c : Nat → Int32} {t : Tok} {w : Int64} (hG : TkG f n t) (h12 : m ≤ 12) (htg : w.toInt = encD (fun i => (c i).toInt - 96) m) (hch : ∀ i, i < m → isLt (c i)) (hne : ¬ w = -1) : (t.1 = 1 ∧ m = t.2.2.1 - t.2.1 ∧ ∀ i, i < m → c i = lkN f n (t.2.1 + i)) ↔ wdT t w := by
  have hgd : ∀ i, i < m → 1 ≤ (fun i => (c i).toInt - 96) i ∧ (fun i => (c i).toInt - 96) i ≤ 26 := fun i hi => by
    have h1 : (97 : Int) ≤ (c i).toInt := Int32.le_iff_toInt_le.mp (hch i hi).1
    have h2 : (c i).toInt ≤ 122 := Int32.le_iff_toInt_le.mp (hch i hi).2
    show 1 ≤ (c i).toInt - 96 ∧ (c i).toInt - 96 ≤ 26
    omega
  constructor
  · rintro ⟨h1, h2, h3⟩
    obtain ⟨g1, g2, g3, g4⟩ := hG.2.1 h1
    refine ⟨h1, Int64.toInt_inj.mp ?_⟩
    rw [g3 (by omega), htg, ← h2]
    have : ∀ L, L ≤ m → encD (lgD f n t.2.1) L = encD (fun i => (c i).toInt - 96) L := by
      intro L
      induction L with
      | zero => intro _; rw [encD, encD]
      | succ L ih =>
        intro hL
        rw [encD, encD, ih (by omega), h3 L (by omega)]
        rfl
    exact this _ (Nat.le_refl _)
  · rintro ⟨h1, h2⟩
    obtain ⟨g1, g2, g3, g4⟩ := hG.2.1 h1
    have hle : t.2.2.1 ≤ t.2.1 + 12 := by
      by_cases z : t.2.1 + 12 < t.2.2.1
      · exact absurd (h2.symm.trans (g4 z)) hne
      · omega
    have e1 := g3 hle
    rw [h2, htg] at e1
    obtain ⟨r1, r2⟩ := encD_inj _ _ hgd (lgD_ok g2) e1
    refine ⟨h1, r1, fun i hi => ?_⟩
    have r3 : (c i).toInt - 96 = (lkN f n (t.2.1 + i)).toInt - 96 := r2 i hi
    exact Int32.toInt_inj.mp (by omega)
theorem isW_wd {f : Nat → Int32} {n j k e : Nat} {t : Tok} {w : Int64} (hG : TkG f n t) (hW : WOK j k e w) : isW f n j k e t ↔ wdT t w :=
  wd_core (c := fun i => chS j (k + i)) hG hW.2.2.1 hW.2.2.2.1 hW.2.2.2.2.1 hW.2.2.2.2.2
theorem QB.cg {P Q : Prop} {M : List ACell} (h : P ↔ Q) : QB P M = QB Q M := by rw [propext h]
theorem srT_le (s : Nat) : srT s ≤ 4 := by unfold srT; (repeat' split) <;> omega
theorem srT_2 {s : Nat} : srT s = 2 ↔ s = 1 := by unfold srT; (repeat' split) <;> omega
theorem srT_3 {s : Nat} : srT s = 3 ↔ s = 2 := by unfold srT; (repeat' split) <;> omega
theorem srT_4 {s : Nat} : srT s = 4 ↔ s = 3 := by unfold srT; (repeat' split) <;> omega
theorem srT_0 {s : Nat} : srT s = 0 ↔ s = 0 := by unfold srT; (repeat' split) <;> omega
theorem srT_1 {s : Nat} (h : s ≤ 4) : srT s = 1 ↔ s = 4 := by unfold srT; (repeat' split) <;> omega
