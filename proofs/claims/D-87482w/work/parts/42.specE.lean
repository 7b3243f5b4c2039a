/-! ===== engines, specified: a matrix of figures, by axis and wheel ===== -/
abbrev Mx : Type := Nat → Nat → Nat
def upM (F : Mx) (x i v : Nat) : Mx := fun a b => if a = x ∧ b = i then v else F a b
theorem upM_s (F : Mx) (x i v : Nat) : upM F x i v x i = v := if_pos ⟨rfl, rfl⟩
theorem upM_n {F : Mx} {x i v a b : Nat} (h : ¬ (a = x ∧ b = i)) : upM F x i v a b = F a b := if_neg h
def upW (f : Nat → Bool) (k : Nat) (v : Bool) : Nat → Bool := fun j => if j = k then v else f j
/-- the figures' first pass: axis x is added to that ahead of it, k wheels; jam: which wheels take nothing -/
def p1 (rd : Nat → Nat) (jam : Nat → Nat) (x : Nat) (F : Mx) : Nat → Mx × (Nat → Bool)
  | 0 => (F, fun _ => false)
  | k + 1 => (upM (p1 rd jam x F k).1 (x - 1) k (((p1 rd jam x F k).1 (x - 1) k + (if 0 < jam k then 0 else (p1 rd jam x F k).1 x k)) % rd k), upW (p1 rd jam x F k).2 k (decide (rd k ≤ (p1 rd jam x F k).1 (x - 1) k + (if 0 < jam k then 0 else (p1 rd jam x F k).1 x k))))
/-- the carries, k wheels -/
def p2 (rd : Nat → Nat) (stk : Nat → Nat) (x : Nat) (s : Mx × (Nat → Bool)) : Nat → Mx × (Nat → Bool)
  | 0 => s
  | k + 1 => if (p2 rd stk x s k).2 k = true ∧ ¬ 0 < stk (k + 1) then
      (if (p2 rd stk x s k).1 (x - 1) (k + 1) + 1 < rd (k + 1) then (upM (p2 rd stk x s k).1 (x - 1) (k + 1) ((p2 rd stk x s k).1 (x - 1) (k + 1) + 1), (p2 rd stk x s k).2) else (upM (p2 rd stk x s k).1 (x - 1) (k + 1) 0, upW (p2 rd stk x s k).2 (k + 1) true))
    else p2 rd stk x s k
/-- axis x added to that ahead of it; cnt: how often a mishap of axis, wheel, kind -/
def addX (W : Nat) (rd : Nat → Nat) (cnt : Nat → Nat → Nat → Nat) (x : Nat) (F : Mx) : Mx := (p2 rd (fun i => cnt (x - 1) i 1) x (p1 rd (fun i => cnt (x - 1) i 2) x F W) (W - 1)).1
/-- axes s, s + 2 .. added, j of them -/
def adL (W : Nat) (rd : Nat → Nat) (cnt : Nat → Nat → Nat → Nat) (s : Nat) (F : Mx) : Nat → Mx
  | 0 => F
  | j + 1 => addX W rd cnt (s + 2 * j) (adL W rd cnt s F j)
/-- a figure n steps back -/
def decN (r f : Nat) : Nat → Nat
  | 0 => f
  | n + 1 => (decN r f n + r - 1) % r
def slF (A W : Nat) (rd : Nat → Nat) (cnt : Nat → Nat → Nat → Nat) (F : Mx) : Mx := fun a w => if a + 1 < A ∧ w < W then decN (rd w) (F a w) (cnt a w 0) else F a w
/-- one turn -/
def turnN (A W : Nat) (rd : Nat → Nat) (cnt : Nat → Nat → Nat → Nat) (F : Mx) : Mx := slF A W rd cnt (adL W rd cnt 2 (adL W rd cnt 1 F (A / 2)) ((A - 1) / 2))
/-- the figures are within their wheels -/
def Bnd (A W : Nat) (rd : Nat → Nat) (F : Mx) : Prop := ∀ a, a < A → ∀ i, i < W → F a i < rd i
def Rds (W : Nat) (rd : Nat → Nat) : Prop := ∀ i, i < W → 2 ≤ rd i ∧ rd i ≤ 12
theorem Bnd.up {A W : Nat} {rd : Nat → Nat} {F : Mx} (h : Bnd A W rd F) {x i v : Nat} (hv : v < rd i) : Bnd A W rd (upM F x i v) := by
  intro a ha b hb
  by_cases e : a = x ∧ b = i
  · obtain ⟨rfl, rfl⟩ := e
    rw [upM_s]; exact hv
  · rw [upM_n e]; exact h a ha b hb
theorem p1_ok {A W : Nat} {rd : Nat → Nat} {jam : Nat → Nat} {x : Nat} {F : Mx} (hr : Rds W rd) (h : Bnd A W rd F) : ∀ k, k ≤ W → Bnd A W rd (p1 rd jam x F k).1
  | 0, _ => h
  | k + 1, hk => (p1_ok hr h k (by omega)).up (Nat.mod_lt _ (by have := hr k (by omega); omega))
theorem p2_ok {A W : Nat} {rd : Nat → Nat} {stk : Nat → Nat} {x : Nat} {s : Mx × (Nat → Bool)} (hr : Rds W rd) (h : Bnd A W rd s.1) : ∀ k, k + 1 ≤ W → Bnd A W rd (p2 rd stk x s k).1
  | 0, _ => h
  | k + 1, hk => by
    have ih := p2_ok (stk := stk) (x := x) hr h k (by omega)
    have := hr (k + 1) (by omega)
    rw [p2]
    split
    · split
      · rename_i h2; exact ih.up h2
      · exact ih.up (by omega)
    · exact ih
theorem addX_ok {A W : Nat} {rd : Nat → Nat} {cnt : Nat → Nat → Nat → Nat} {x : Nat} {F : Mx} (hW : 1 ≤ W) (hr : Rds W rd) (h : Bnd A W rd F) : Bnd A W rd (addX W rd cnt x F) :=
  p2_ok hr (p1_ok hr h W (Nat.le_refl _)) (W - 1) (by omega)
theorem adL_ok {A W : Nat} {rd : Nat → Nat} {cnt : Nat → Nat → Nat → Nat} {s : Nat} {F : Mx} (hW : 1 ≤ W) (hr : Rds W rd) (h : Bnd A W rd F) : ∀ j, Bnd A W rd (adL W rd cnt s F j)
  | 0 => h
  | j + 1 => addX_ok hW hr (adL_ok hW hr h j)
theorem decN_ok {r f : Nat} (h0 : 0 < r) (h : f < r) : ∀ n, decN r f n < r
  | 0 => h
  | n + 1 => Nat.mod_lt _ h0
theorem slF_ok {A W : Nat} {rd : Nat → Nat} {cnt : Nat → Nat → Nat → Nat} {F : Mx} (hr : Rds W rd) (h : Bnd A W rd F) : Bnd A W rd (slF A W rd cnt F) := by
  intro a ha i hi
  unfold slF
  split
  · exact decN_ok (by have := hr i hi; omega) (h a ha i hi) _
  · exact h a ha i hi
theorem turnN_ok {A W : Nat} {rd : Nat → Nat} {cnt : Nat → Nat → Nat → Nat} {F : Mx} (hW : 1 ≤ W) (hr : Rds W rd) (h : Bnd A W rd F) : Bnd A W rd (turnN A W rd cnt F) :=
  slF_ok hr (adL_ok hW hr (adL_ok hW hr h _) _)
/-! the figures in one array -/
def fgI (e x i : Nat) : Nat := 12 * (7 * e + x) + i
/-- the array a with the matrix F for engine e -/
def fgUp (a : Nat → Int32) (e A W : Nat) (F : Mx) : Nat → Int32 := fun j => if 84 * e ≤ j ∧ j < 84 * e + 84 ∧ (j - 84 * e) / 12 < A ∧ (j - 84 * e) % 12 < W then nI (F ((j - 84 * e) / 12) ((j - 84 * e) % 12)) else a j
theorem fgUp_at {a : Nat → Int32} {e A W x i : Nat} {F : Mx} (hA : A ≤ 7) (hW : W ≤ 12) (hx : x < A) (hi : i < W) : fgUp a e A W F (12 * (7 * e + x) + i) = nI (F x i) := by
  unfold fgUp
  have h1 : (12 * (7 * e + x) + i - 84 * e) / 12 = x := by omega
  have h2 : (12 * (7 * e + x) + i - 84 * e) % 12 = i := by omega
  rw [h1, h2, if_pos ⟨by omega, by omega, hx, hi⟩]
theorem fgUp_up {a : Nat → Int32} {e A W x i v : Nat} {F : Mx} (hA : A ≤ 7) (hW : W ≤ 12) (hx : x < A) (hi : i < W) : upd (fgUp a e A W F) (12 * (7 * e + x) + i) (nI v) = fgUp a e A W (upM F x i v) := by
  funext j
  unfold upd fgUp
  by_cases hj : j = 12 * (7 * e + x) + i
  · subst hj
    have h1 : (12 * (7 * e + x) + i - 84 * e) / 12 = x := by omega
    have h2 : (12 * (7 * e + x) + i - 84 * e) % 12 = i := by omega
    rw [if_pos rfl, h1, h2, if_pos ⟨by omega, by omega, hx, hi⟩, upM_s]
  · rw [if_neg hj]
    by_cases h : 84 * e ≤ j ∧ j < 84 * e + 84 ∧ (j - 84 * e) / 12 < A ∧ (j - 84 * e) % 12 < W
    · rw [if_pos h, if_pos h, upM_n (fun z => hj (by omega))]
    · rw [if_neg h, if_neg h]
theorem fgUp_self {a : Nat → Int32} {e A W : Nat} {F : Mx} (h : ∀ x, x < A → ∀ i, i < W → a (12 * (7 * e + x) + i) = nI (F x i)) : fgUp a e A W F = a := by
  funext j
  unfold fgUp
  split
  · rename_i hj
    have := h _ hj.2.2.1 _ hj.2.2.2
    rw [show 12 * (7 * e + (j - 84 * e) / 12) + (j - 84 * e) % 12 = j by omega] at this
    exact this.symm
  · rfl
theorem fgUp_up2 {a : Nat → Int32} {e A W : Nat} {F G : Mx} : fgUp (fgUp a e A W F) e A W G = fgUp a e A W G := by
  funext j
  unfold fgUp
  split <;> rfl
theorem fgUp_cg {a : Nat → Int32} {e A W : Nat} {F G : Mx} (h : ∀ x, x < A → ∀ i, i < W → F x i = G x i) : fgUp a e A W F = fgUp a e A W G := by
  funext j
  unfold fgUp
  split
  · rename_i hj
    rw [h _ hj.2.2.1 _ hj.2.2.2]
  · rfl
/-! the engines of a state -/
def gE (ς : Tw) : Nat := ix (ς.1 5)
def gA (ς : Tw) (e : Nat) : Nat := ix (ς.2.2.1 6 e)
def gW (ς : Tw) (e : Nat) : Nat := ix (ς.2.2.1 7 e)
def gU (ς : Tw) (e : Nat) : Nat := ix (ς.2.2.1 8 e)
def gM (ς : Tw) (e : Nat) : Nat := ix (ς.2.2.1 12 e)
def gR (ς : Tw) (e i : Nat) : Nat := ix (ς.2.2.1 9 (12 * e + i))
def gF (ς : Tw) (e : Nat) : Mx := fun x i => ix (ς.2.2.1 10 (12 * (7 * e + x) + i))
/-- an engine is as it should be -/
def EngOk (ς : Tw) (e : Nat) : Prop := (2 ≤ gA ς e ∧ gA ς e ≤ 7 ∧ ς.2.2.1 6 e = nI (gA ς e)) ∧ (1 ≤ gW ς e ∧ gW ς e ≤ 12 ∧ ς.2.2.1 7 e = nI (gW ς e)) ∧ (gU ς e ≤ 1000 ∧ ς.2.2.1 8 e = nI (gU ς e)) ∧ (gM ς e ≤ 20 ∧ ς.2.2.1 12 e = nI (gM ς e)) ∧
  (∀ i, i < gW ς e → 2 ≤ gR ς e i ∧ gR ς e i ≤ 12 ∧ ς.2.2.1 9 (12 * e + i) = nI (gR ς e i)) ∧ (∀ x, x < gA ς e → ∀ i, i < gW ς e → gF ς e x i < gR ς e i ∧ ς.2.2.1 10 (12 * (7 * e + x) + i) = nI (gF ς e x i))
/-- a mishap told is one of an axis but the last, of a wheel -/
def MisOk (ς : Tw) (e : Nat) : Prop := ∀ m, m < gM ς e → ∃ t x w k, 1 ≤ t ∧ t ≤ 1000 ∧ x + 1 < gA ς e ∧ w < gW ς e ∧ k < 3 ∧ ς.2.2.1 13 (20 * e + m) = nI t ∧ ς.2.2.1 14 (20 * e + m) = nI x ∧ ς.2.2.1 15 (20 * e + m) = nI w ∧ ς.2.2.1 16 (20 * e + m) = nI k
def InvE (ς : Tw) : Prop := gE ς ≤ 4 ∧ ς.1 5 = nI (gE ς) ∧ (∀ e, e < gE ς → EngOk ς e ∧ MisOk ς e) ∧ ∀ e, gE ς ≤ e → e < 4 → ς.2.2.1 8 e = 0 ∧ ς.2.2.1 12 e = 0 ∧ ∀ j, 84 * e ≤ j → j < 84 * e + 84 → ς.2.2.1 10 j = 0
/-- how often there is a mishap: of those told, m of them; of the one that is tried -/
def mhC (ς : Tw) (e : Nat) (t : Int32) (x w k : Nat) : Nat → Nat
  | 0 => 0
  | m + 1 => mhC ς e t x w k m + (if ς.2.2.1 13 (20 * e + m) = t ∧ ς.2.2.1 14 (20 * e + m) = nI x ∧ ς.2.2.1 15 (20 * e + m) = nI w ∧ ς.2.2.1 16 (20 * e + m) = nI k then 1 else 0)
def mhT (ς : Tw) (t : Int32) (x w k : Nat) : Nat := if ς.1 18 = t ∧ ς.1 19 = nI x ∧ ς.1 20 = nI w ∧ ς.1 21 = nI k then 1 else 0
def mhN (ς : Tw) (e : Nat) (t : Int32) (tr : Bool) (x w k : Nat) : Nat := if tr = true then mhT ς t x w k else mhC ς e t x w k (gM ς e)
theorem mhC_le (ς : Tw) (e : Nat) (t : Int32) (x w k : Nat) : ∀ m, mhC ς e t x w k m ≤ m
  | 0 => Nat.le_refl _
  | m + 1 => by
    have := mhC_le ς e t x w k m
    rw [mhC]; split <;> omega
theorem mhN_le {ς : Tw} {e : Nat} (h : gM ς e ≤ 20) (t : Int32) (tr : Bool) (x w k : Nat) : mhN ς e t tr x w k ≤ 20 := by
  unfold mhN mhT
  split
  · split <;> omega
  · exact Nat.le_trans (mhC_le ..) h
