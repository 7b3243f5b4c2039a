/-! ===== the twin: reading a card ===== -/
def CdAt (τ : Tw) (m : Nat) (c : Cd) : Prop := τ.2.2.1 49 m = nI c.1 ∧ τ.2.2.1 50 m = nI c.2.1 ∧ (1 ≤ c.1 ∧ c.1 ≤ 4 → τ.2.2.1 51 m = nI c.2.2.1) ∧ (1 ≤ c.1 ∧ c.1 ≤ 4 → τ.2.2.1 52 m = nI c.2.2.2.1) ∧ (c.1 = 4 → τ.2.2.1 53 m = nI c.2.2.2.2.1) ∧ τ.2.2.1 54 m = nI c.2.2.2.2.2.1 ∧ τ.2.2.2 57 m = c.2.2.2.2.2.2.1 ∧ (6 ≤ c.1 → τ.2.2.1 55 m = nI c.2.2.2.2.2.2.2)
/-- places of cards that are read are places -/
def InvN (τ : Tw) : Prop := ∀ j, (∃ q, q < 20 ∧ τ.2.2.1 51 j = nI q) ∧ (∃ q, q < 20 ∧ τ.2.2.1 52 j = nI q) ∧ ∃ q, q < 20 ∧ τ.2.2.1 53 j = nI q
theorem InvN.cg {τ τ1 : Tw} (h : InvN τ) (h1 : τ1.2.2.1 51 = τ.2.2.1 51) (h2 : τ1.2.2.1 52 = τ.2.2.1 52) (h3 : τ1.2.2.1 53 = τ.2.2.1 53) : InvN τ1 := by
  unfold InvN; rw [h1, h2, h3]; exact h
theorem InvN.a51 {τ : Tw} (h : InvN τ) {m q : Nat} (hq : q < 20) : InvN (tA τ 51 (upd (τ.2.2.1 51) m (nI q))) := by
  intro j
  refine ⟨?_, (h j).2⟩
  show ∃ q', q' < 20 ∧ upd (τ.2.2.1 51) m (nI q) j = nI q'
  by_cases e : j = m
  · subst e; rw [pk_us]; exact ⟨q, hq, rfl⟩
  · rw [pk_un e]; exact (h j).1
theorem InvN.a52 {τ : Tw} (h : InvN τ) {m q : Nat} (hq : q < 20) : InvN (tA τ 52 (upd (τ.2.2.1 52) m (nI q))) := by
  intro j
  refine ⟨(h j).1, ?_, (h j).2.2⟩
  show ∃ q', q' < 20 ∧ upd (τ.2.2.1 52) m (nI q) j = nI q'
  by_cases e : j = m
  · subst e; rw [pk_us]; exact ⟨q, hq, rfl⟩
  · rw [pk_un e]; exact (h j).2.1
theorem InvN.a53 {τ : Tw} (h : InvN τ) {m q : Nat} (hq : q < 20) : InvN (tA τ 53 (upd (τ.2.2.1 53) m (nI q))) := by
  intro j
  refine ⟨(h j).1, (h j).2.1, ?_⟩
  show ∃ q', q' < 20 ∧ upd (τ.2.2.1 53) m (nI q) j = nI q'
  by_cases e : j = m
  · subst e; rw [pk_us]; exact ⟨q, hq, rfl⟩
  · rw [pk_un e]; exact (h j).2.2
def RcQ (n m a0 : Nat) (r : Er ⊕ (Cd × Tok)) (τ1 τ0 : Tw) : Prop := Sx [33, 34, 35, 36, 37, 38, 42] [39, 40] [49, 50, 51, 52, 53, 54, 55] [57] τ1 τ0 ∧ Bl m τ1 τ0 ∧ InvN τ1 ∧ ((∃ e, r = .inl e ∧ Bd τ1 e) ∨ ∃ x, r = .inr x ∧ CdAt τ1 m x.1 ∧ τ1.1 33 = 0 ∧ τ1.1 42 = nI (m + 1) ∧ TkOk τ1 x.2 ∧ TkW n x.2 ∧ x.2.1 ≤ 4 ∧ a0 < x.2.2.1)
theorem RcQ.tr {n m a0 : Nat} {r : Er ⊕ (Cd × Tok)} {τ τ1 τ2 : Tw} (h : RcQ n m a0 r τ2 τ1) (hS : Sx [33, 34, 35, 36, 37, 38, 42] [39, 40] [49, 50, 51, 52, 53, 54, 55] [57] τ1 τ) (hl : Bl m τ1 τ) : RcQ n m a0 r τ2 τ := ⟨h.1.trans hS, h.2.1.trans hl, h.2.2⟩
def Cp (τ : Tw) (m K a : Nat) (v : Int64) : Prop := τ.2.2.1 49 m = nI K ∧ τ.2.2.1 50 m = nI a ∧ τ.2.2.1 54 m = 0 ∧ τ.2.2.2 57 m = v
theorem Cp.sx {τ τ1 : Tw} {m K a : Nat} {v : Int64} {x y : List Nat} (h : Cp τ m K a v) (hS : Sx x y [] [] τ1 τ) : Cp τ1 m K a v := by
  unfold Cp
  rw [hS.2.2.1 49 (by simp), hS.2.2.1 50 (by simp), hS.2.2.1 54 (by simp), hS.2.2.2 57 (by simp)]
  exact h
theorem l14 {K : Nat} (hK : K ≤ 7) : ((1 : Int64) ≤ lN K ∧ lN K ≤ 4) ↔ (1 ≤ K ∧ K ≤ 4) := and_congr (lN_le (a := 1) (by omega) (by omega)) (lN_le (b := 4) (by omega) (by omega))
set_option maxHeartbeats 4000000 in
set_option maxRecDepth 100000 in
theorem t_rcB186 {pre post : List ACell} {τ0 : Tw} (hp : pre.length = 56) {e : Er} (hB : Bd τ0 e) {m K : Nat} (hm : m < 40) (hK : K ≤ 7) (hI : InvN τ0) {Q : Qfun} (hQ : ∀ τ1, Sx [33, 34, 35, 36, 37, 38, 42] [39, 40] [49, 50, 51, 52, 53, 54, 55] [57] τ1 τ0 → Bl m τ1 τ0 → InvN τ1 → Bd τ1 e → Q none (TW pre τ1 post)) :
    E cX4_readCard (RX4, none, 3, 4, (0, 0), false, []) Q noX 0 0 186 [some (.ref 56), some (.int (nI K)), some (.int (nI m))] [] (TW pre τ0 post) := by
  have hb1 := hB.2.1
  have hb2 := hB.2.2.1
  refine e_aload_n dX4_readCard_186 0 rfl rfl rfl ?_
  refine e_getf (v := .int (τ0.1 33)) dX4_readCard_187 rfl fX4_400 (tw_o hp) rfl ?_
  refine e_top (congrArg Value.int hB.1) ?_
  refine e_if_neN e.1 206 (by omega) dX4_readCard_190 (by decide) (fun h190 => ?_) (fun h190 => ?_)
  · refine e_aload_n dX4_readCard_206 0 rfl rfl rfl ?_
    refine e_getf (v := .int (τ0.1 33)) dX4_readCard_207 rfl fX4_400 (tw_o hp) rfl ?_
    refine e_top (congrArg Value.int hB.1) ?_
    refine e_if_leN e.1 214 (by omega) dX4_readCard_210 (by decide) (fun h210 => ?_) (fun h210 => ?_)
    · exact absurd h210 (by omega)
    · refine e_return dX4_readCard_213 rfl (Nat.zero_le _) (Nat.zero_le _) ?_
      exact hQ _ Sx.rf Bl.rf hI hB
  · exact absurd h190 (by omega)

set_option maxHeartbeats 4000000 in
set_option maxRecDepth 100000 in
theorem t_rcB168 {pre post : List ACell} {τ0 : Tw} (hp : pre.length = 56) {e : Er} (hB : Bd τ0 e) {m K : Nat} (hm : m < 40) (hK : K ≤ 7) (hI : InvN τ0) {Q : Qfun} (hQ : ∀ τ1, Sx [33, 34, 35, 36, 37, 38, 42] [39, 40] [49, 50, 51, 52, 53, 54, 55] [57] τ1 τ0 → Bl m τ1 τ0 → InvN τ1 → Bd τ1 e → Q none (TW pre τ1 post)) :
    E cX4_readCard (RX4, none, 3, 4, (0, 0), false, []) Q noX 0 0 168 [some (.ref 56), some (.int (nI K)), some (.int (nI m))] [] (TW pre τ0 post) := by
  have hb1 := hB.2.1
  have hb2 := hB.2.2.1
  refine e_iload_n dX4_readCard_168 1 rfl rfl ?_
  refine e_iconst 4 dX4_readCard_169 rfl ?_
  refine e_icmp_neN K 4 186 (by omega) (by omega) dX4_readCard_170 (by decide) (fun h170 => ?_) (fun h170 => ?_)
  · exact t_rcB186 hp hB hm hK hI hQ
  · refine e_aload_n dX4_readCard_173 0 rfl rfl rfl ?_
    refine e_getf (v := .ref 85) dX4_readCard_174 rfl fX4_113 (tw_o hp) rfl ?_
    refine e_iload_n dX4_readCard_177 2 rfl rfl ?_
    refine e_aload_n dX4_readCard_178 0 rfl rfl rfl ?_
    refine e_iconst 0 dX4_readCard_179 rfl ?_
    refine e_bipush 19 dX4_readCard_180 rfl ?_
    refine e_callV1 (As := [.int 0, .int 19]) (rest := [.int (nI m), .ref 85]) dX4_readCard_182 rfl mvX4_433 (tw_o hp) rfl (t_countB hp (e := e) hB 0 19) (Nat.le_of_ble_eq_true rfl) rfl rfl (Nat.le_of_ble_eq_true rfl) (Nat.zero_le _) (Nat.zero_le _) ?_
    refine e_iast (f := τ0.2.2.1 53) (j := m) dX4_readCard_185 (tw_a53 hp) rfl (by omega) (by decide) ?_
    rw [tw_s53 hp]
    exact t_rcB186 hp (τ0 := tA τ0 53 (upd (τ0.2.2.1 53) m 0)) (by exact hB) hm hK (by exact hI.a53 (q := 0) (by omega)) (fun τ1 h1 h2 h3 h4 => hQ τ1 (h1.trans (Sx.rf.A _ (by decide))) (h2.trans (Bl.rf.A _)) h3 h4)

set_option maxHeartbeats 4000000 in
set_option maxRecDepth 100000 in
theorem t_rcB143 {pre post : List ACell} {τ0 : Tw} (hp : pre.length = 56) {e : Er} (hB : Bd τ0 e) {m K : Nat} (hm : m < 40) (hK : K ≤ 7) (hI : InvN τ0) {Q : Qfun} (hQ : ∀ τ1, Sx [33, 34, 35, 36, 37, 38, 42] [39, 40] [49, 50, 51, 52, 53, 54, 55] [57] τ1 τ0 → Bl m τ1 τ0 → InvN τ1 → Bd τ1 e → Q none (TW pre τ1 post)) :
    E cX4_readCard (RX4, none, 3, 4, (0, 0), false, []) Q noX 0 0 143 [some (.ref 56), some (.int (nI K)), some (.int (nI m))] [] (TW pre τ0 post) := by
  have hb1 := hB.2.1
  have hb2 := hB.2.2.1
  refine e_iload_n dX4_readCard_143 1 rfl rfl ?_
  refine e_i2lN K (by omega) dX4_readCard_144 ?_
  refine e_lconst 1 dX4_readCard_145 rfl ?_
  refine e_ldc2 rfl q1577 dX4_readCard_146 ?_
  refine e_callSB (As := [.long (lN K), .long 1, .long 4]) (rest := []) dX4_readCard_149 rfl msX4_239 (t_isIn (lN K) 1 4) (Nat.le_of_ble_eq_true rfl) rfl rfl (Nat.le_of_ble_eq_true rfl) (Nat.zero_le _) (Nat.zero_le _) (fun h149 => ?_) (fun h149 => ?_)
  · have h149 : (1 ≤ lN K ∧ lN K ≤ 4) := h149
    refine e_if_eq_f (by decide) 168 dX4_readCard_152 (by decide) ?_
    refine e_aload_n dX4_readCard_155 0 rfl rfl rfl ?_
    refine e_getf (v := .ref 84) dX4_readCard_156 rfl fX4_110 (tw_o hp) rfl ?_
    refine e_iload_n dX4_readCard_159 2 rfl rfl ?_
    refine e_aload_n dX4_readCard_160 0 rfl rfl rfl ?_
    refine e_iconst 0 dX4_readCard_161 rfl ?_
    refine e_bipush 19 dX4_readCard_162 rfl ?_
    refine e_callV1 (As := [.int 0, .int 19]) (rest := [.int (nI m), .ref 84]) dX4_readCard_164 rfl mvX4_433 (tw_o hp) rfl (t_countB hp (e := e) hB 0 19) (Nat.le_of_ble_eq_true rfl) rfl rfl (Nat.le_of_ble_eq_true rfl) (Nat.zero_le _) (Nat.zero_le _) ?_
    refine e_iast (f := τ0.2.2.1 52) (j := m) dX4_readCard_167 (tw_a52 hp) rfl (by omega) (by decide) ?_
    rw [tw_s52 hp]
    exact t_rcB168 hp (τ0 := tA τ0 52 (upd (τ0.2.2.1 52) m 0)) (by exact hB) hm hK (by exact hI.a52 (q := 0) (by omega)) (fun τ1 h1 h2 h3 h4 => hQ τ1 (h1.trans (Sx.rf.A _ (by decide))) (h2.trans (Bl.rf.A _)) h3 h4)
  · have h149 : ¬ (1 ≤ lN K ∧ lN K ≤ 4) := h149
    refine e_if_eq_t 168 (by decide) dX4_readCard_152 (by decide) ?_
    exact t_rcB168 hp hB hm hK hI hQ

set_option maxHeartbeats 4000000 in
set_option maxRecDepth 100000 in
theorem t_rcB118 {pre post : List ACell} {τ0 : Tw} (hp : pre.length = 56) {e : Er} (hB : Bd τ0 e) {m K : Nat} (hm : m < 40) (hK : K ≤ 7) (hI : InvN τ0) {Q : Qfun} (hQ : ∀ τ1, Sx [33, 34, 35, 36, 37, 38, 42] [39, 40] [49, 50, 51, 52, 53, 54, 55] [57] τ1 τ0 → Bl m τ1 τ0 → InvN τ1 → Bd τ1 e → Q none (TW pre τ1 post)) :
    E cX4_readCard (RX4, none, 3, 4, (0, 0), false, []) Q noX 0 0 118 [some (.ref 56), some (.int (nI K)), some (.int (nI m))] [] (TW pre τ0 post) := by
  have hb1 := hB.2.1
  have hb2 := hB.2.2.1
  refine e_iload_n dX4_readCard_118 1 rfl rfl ?_
  refine e_i2lN K (by omega) dX4_readCard_119 ?_
  refine e_lconst 1 dX4_readCard_120 rfl ?_
  refine e_ldc2 rfl q1577 dX4_readCard_121 ?_
  refine e_callSB (As := [.long (lN K), .long 1, .long 4]) (rest := []) dX4_readCard_124 rfl msX4_239 (t_isIn (lN K) 1 4) (Nat.le_of_ble_eq_true rfl) rfl rfl (Nat.le_of_ble_eq_true rfl) (Nat.zero_le _) (Nat.zero_le _) (fun h124 => ?_) (fun h124 => ?_)
  · have h124 : (1 ≤ lN K ∧ lN K ≤ 4) := h124
    refine e_if_eq_f (by decide) 143 dX4_readCard_127 (by decide) ?_
    refine e_aload_n dX4_readCard_130 0 rfl rfl rfl ?_
    refine e_getf (v := .ref 83) dX4_readCard_131 rfl fX4_107 (tw_o hp) rfl ?_
    refine e_iload_n dX4_readCard_134 2 rfl rfl ?_
    refine e_aload_n dX4_readCard_135 0 rfl rfl rfl ?_
    refine e_iconst 0 dX4_readCard_136 rfl ?_
    refine e_bipush 19 dX4_readCard_137 rfl ?_
    refine e_callV1 (As := [.int 0, .int 19]) (rest := [.int (nI m), .ref 83]) dX4_readCard_139 rfl mvX4_433 (tw_o hp) rfl (t_countB hp (e := e) hB 0 19) (Nat.le_of_ble_eq_true rfl) rfl rfl (Nat.le_of_ble_eq_true rfl) (Nat.zero_le _) (Nat.zero_le _) ?_
    refine e_iast (f := τ0.2.2.1 51) (j := m) dX4_readCard_142 (tw_a51 hp) rfl (by omega) (by decide) ?_
    rw [tw_s51 hp]
    exact t_rcB143 hp (τ0 := tA τ0 51 (upd (τ0.2.2.1 51) m 0)) (by exact hB) hm hK (by exact hI.a51 (q := 0) (by omega)) (fun τ1 h1 h2 h3 h4 => hQ τ1 (h1.trans (Sx.rf.A _ (by decide))) (h2.trans (Bl.rf.A _)) h3 h4)
  · have h124 : ¬ (1 ≤ lN K ∧ lN K ≤ 4) := h124
    refine e_if_eq_t 143 (by decide) dX4_readCard_127 (by decide) ?_
    exact t_rcB143 hp hB hm hK hI hQ

set_option maxHeartbeats 4000000 in
set_option maxRecDepth 100000 in
theorem t_rcB109 {pre post : List ACell} {τ0 : Tw} (hp : pre.length = 56) {e : Er} (hB : Bd τ0 e) {m K : Nat} (hm : m < 40) (hK : K ≤ 7) (hI : InvN τ0) {Q : Qfun} (hQ : ∀ τ1, Sx [33, 34, 35, 36, 37, 38, 42] [39, 40] [49, 50, 51, 52, 53, 54, 55] [57] τ1 τ0 → Bl m τ1 τ0 → InvN τ1 → Bd τ1 e → Q none (TW pre τ1 post)) :
    E cX4_readCard (RX4, none, 3, 4, (0, 0), false, []) Q noX 0 0 109 [some (.ref 56), some (.int (nI K)), some (.int (nI m))] [] (TW pre τ0 post) := by
  have hb1 := hB.2.1
  have hb2 := hB.2.2.1
  refine e_iload_n dX4_readCard_109 1 rfl rfl ?_
  refine e_if_neN K 118 (by omega) dX4_readCard_110 (by decide) (fun h110 => ?_) (fun h110 => ?_)
  · exact t_rcB118 hp hB hm hK hI hQ
  · refine e_aload_n dX4_readCard_113 0 rfl rfl rfl ?_
    refine e_iload_n dX4_readCard_114 2 rfl rfl ?_
    refine e_callV0 (As := [.int (nI m)]) (rest := []) dX4_readCard_115 rfl mvX4_436 (tw_o hp) rfl (t_wholeB hp (e := e) hB (nI m)) (Nat.le_of_ble_eq_true rfl) rfl rfl (Nat.le_of_ble_eq_true rfl) (Nat.zero_le _) (Nat.zero_le _) ?_
    exact t_rcB118 hp hB hm hK hI hQ

set_option maxHeartbeats 4000000 in
set_option maxRecDepth 100000 in
theorem t_rcO186 {pre post : List ACell} {τ0 : Tw} (hp : pre.length = 56) {f : Nat → Int32} {n : Nat} (hn : n ≤ 500) (e30 : τ0.1 30 = nI n) (e28 : τ0.2.2.1 28 = f) {t : Tok} (hT : TkOk τ0 t) (hW : TkW n t) (h33 : τ0.1 33 = 0) {m K a0 : Nat} (hm : m < 40) (h42 : τ0.1 42 = nI m) (hI : InvN τ0) (ha0 : a0 ≤ t.2.1) {c : Cd} (hC : CdAt τ0 m c) {Q : Qfun} (hQ : ∀ τ1, RcQ n m a0 (pzEnd f n c t) τ1 τ0 → Q none (TW pre τ1 post)) :
    E cX4_readCard (RX4, none, 3, 4, (0, 0), false, []) Q noX 0 0 186 [some (.ref 56), some (.int (nI K)), some (.int (nI m))] [] (TW pre τ0 post) := by
  have hw : t.1 ≤ 4 := hW.1
  have hb1 := (bdT_b t).1
  have hb2 := (bdT_b t).2
  refine e_aload_n dX4_readCard_186 0 rfl rfl rfl ?_
  refine e_getf (v := .int (τ0.1 33)) dX4_readCard_187 rfl fX4_400 (tw_o hp) rfl ?_
  refine e_top (congrArg Value.int h33) ?_
  refine e_if_ne_f (by decide) 206 dX4_readCard_190 (by decide) ?_
  refine e_aload_n dX4_readCard_193 0 rfl rfl rfl ?_
  refine e_bipush 59 dX4_readCard_194 rfl ?_
  refine e_callVB (As := [.int 59]) (rest := []) dX4_readCard_196 rfl mvX4_439 (tw_o hp) rfl (t_isSign hp 59) (Nat.le_of_ble_eq_true rfl) rfl rfl (Nat.le_of_ble_eq_true rfl) (Nat.zero_le _) (Nat.zero_le _) (fun h196 => ?_) (fun h196 => ?_)
  · have g196 : sgT t 59 := (sg_iff hT hw _).mp h196
    refine e_if_ne_t 206 (by decide) dX4_readCard_199 (by decide) ?_
    refine e_aload_n dX4_readCard_206 0 rfl rfl rfl ?_
    refine e_getf (v := .int (τ0.1 33)) dX4_readCard_207 rfl fX4_400 (tw_o hp) rfl ?_
    refine e_top (congrArg Value.int h33) ?_
    refine e_if_le_t 214 (by decide) dX4_readCard_210 (by decide) ?_
    refine e_aload_n dX4_readCard_214 0 rfl rfl rfl ?_
    refine e_callVQ (As := []) (rest := []) dX4_readCard_215 rfl mvX4_412 (tw_o hp) rfl (t_nextT hp hn (by exact e30) (by exact e28) (t := t) (by exact hT) hW) (Nat.le_of_ble_eq_true rfl) rfl rfl (Nat.le_of_ble_eq_true rfl) (Nat.zero_le _) (Nat.zero_le _) (fun v0 M0 h0 _ => ?_)
    obtain ⟨τ1, rfl, rfl, hS_1, hT_1, hW_1, hw_1⟩ := h0
    have e30_1 := (hS_1.1 30 (by decide)).trans e30
    have e28_1 := (hS_1.2.2.1 28 (by simp)).trans e28
    have h33_1 := (hS_1.1 33 (by decide)).trans (show _ = _ from h33)
    have h42_1 := (hS_1.1 42 (by decide)).trans (show _ = _ from h42)
    have hI_1 : InvN τ1 := hI.cg (hS_1.2.2.1 51 (by simp)) (hS_1.2.2.1 52 (by simp)) (hS_1.2.2.1 53 (by simp))
    refine e_aload_n dX4_readCard_218 0 rfl rfl rfl ?_
    refine e_dup dX4_readCard_219 rfl ?_
    refine e_getf (v := .int (τ1.1 42)) dX4_readCard_220 rfl fX4_427 (tw_o hp) rfl ?_
    refine e_top (congrArg Value.int h42_1) ?_
    refine e_iconst 1 dX4_readCard_223 rfl ?_
    refine e_iaddN m 1 dX4_readCard_224 ?_
    refine e_tputI dX4_readCard_225 rfl pX4_427 rfl hp (Nat.le_of_ble_eq_true rfl) (tw_f42 _) ?_
    refine e_return dX4_readCard_228 rfl (Nat.zero_le _) (Nat.zero_le _) ?_
    refine hQ _ ⟨(((hS_1.mono (by simp) (by simp) (by simp) (by simp)).trans Sx.rf).I _ (by decide)), (((Bl.of hS_1).trans Bl.rf).I _ trivial), ?_, Or.inr ⟨(c, nxT f n t), ?_, ?_, h33_1, rfl, hT_1, hW_1, hw_1, ?_⟩⟩
    · exact hI.cg (hS_1.2.2.1 51 (by simp)) (hS_1.2.2.1 52 (by simp)) (hS_1.2.2.1 53 (by simp))
    · rw [pzEnd, if_pos g196]
    · show CdAt τ1 m c
      unfold CdAt
      rw [hS_1.2.2.1 49 (by simp), hS_1.2.2.1 50 (by simp), hS_1.2.2.1 51 (by simp), hS_1.2.2.1 52 (by simp), hS_1.2.2.1 53 (by simp), hS_1.2.2.1 54 (by simp), hS_1.2.2.1 55 (by simp), hS_1.2.2.2 57 (by simp)]
      exact hC
    · have h9 := hW.2.2.2 (by have := g196.1; omega)
      have h10 := (nxT_w (f := f) hW).2
      show a0 < (nxT f n t).2.1
      omega
  · have g196 : ¬ sgT t 59 := fun z => h196 ((sg_iff hT hw _).mpr z)
    refine e_if_ne_f (by decide) 206 dX4_readCard_199 (by decide) ?_
    refine e_aload_n dX4_readCard_202 0 rfl rfl rfl ?_
    refine e_callV0 (As := []) (rest := []) dX4_readCard_203 rfl mvX4_409 (tw_o hp) rfl (t_wrong0 hp (t := t) (by exact hT) hw (by exact h33)) (Nat.le_of_ble_eq_true rfl) rfl rfl (Nat.le_of_ble_eq_true rfl) (Nat.zero_le _) (Nat.zero_le _) ?_
    refine e_aload_n dX4_readCard_206 0 rfl rfl rfl ?_
    refine e_getf (v := .int (nI ((bdT t).1))) dX4_readCard_207 rfl fX4_400 (tw_o hp) rfl ?_
    refine e_if_leN ((bdT t).1) 214 (by omega) dX4_readCard_210 (by decide) (fun h210 => ?_) (fun h210 => ?_)
    · exact absurd h210 (by have := (bdT_b t).1; omega)
    · refine e_return dX4_readCard_213 rfl (Nat.zero_le _) (Nat.zero_le _) ?_
      refine hQ _ ⟨((Sx.rf.I _ (by decide)).I _ (by decide)), ((Bl.rf.I _ trivial).I _ trivial), by exact hI, Or.inl ⟨(bdT t), ?_, ⟨rfl, (bdT_b t).1, (bdT_b t).2, rfl⟩⟩⟩
      rw [pzEnd, if_neg g196]

set_option maxHeartbeats 4000000 in
set_option maxRecDepth 100000 in
theorem t_rcO168 {pre post : List ACell} {τ0 : Tw} (hp : pre.length = 56) {f : Nat → Int32} {n : Nat} (hn : n ≤ 500) (e30 : τ0.1 30 = nI n) (e28 : τ0.2.2.1 28 = f) {t : Tok} (hT : TkOk τ0 t) (hW : TkW n t) (h33 : τ0.1 33 = 0) {m K a0 : Nat} (hm : m < 40) (h42 : τ0.1 42 = nI m) (hI : InvN τ0) (ha0 : a0 ≤ t.2.1) (hK : K ≤ 5) {a b c : Nat} {v : Int64} (hC : Cp τ0 m K a v) (hb : 1 ≤ K ∧ K ≤ 4 → τ0.2.2.1 51 m = nI b) (hc : 1 ≤ K ∧ K ≤ 4 → τ0.2.2.1 52 m = nI c) {Q : Qfun} (hQ : ∀ τ1, RcQ n m a0 (pz168 f n K a b c v t) τ1 τ0 → Q none (TW pre τ1 post)) :
    E cX4_readCard (RX4, none, 3, 4, (0, 0), false, []) Q noX 0 0 168 [some (.ref 56), some (.int (nI K)), some (.int (nI m))] [] (TW pre τ0 post) := by
  have hw : t.1 ≤ 4 := hW.1
  have hb1 := (bdT_b t).1
  have hb2 := (bdT_b t).2
  refine e_iload_n dX4_readCard_168 1 rfl rfl ?_
  refine e_iconst 4 dX4_readCard_169 rfl ?_
  refine e_icmp_neN K 4 186 (by omega) (by omega) dX4_readCard_170 (by decide) (fun h170 => ?_) (fun h170 => ?_)
  · refine t_rcO186 hp hn e30 e28 hT hW h33 (a0 := a0) hm h42 hI ha0 (c := (K, a, b, c, 0, 0, v, 0)) ⟨hC.1, hC.2.1, hb, hc, fun z => absurd z h170, hC.2.2.1, hC.2.2.2, fun z => absurd (show 6 ≤ K from z) (by omega)⟩ (fun τ2 h => hQ τ2 ?_)
    rw [pz168, if_neg h170]
    exact h
  · refine e_aload_n dX4_readCard_173 0 rfl rfl rfl ?_
    refine e_getf (v := .ref 85) dX4_readCard_174 rfl fX4_113 (tw_o hp) rfl ?_
    refine e_iload_n dX4_readCard_177 2 rfl rfl ?_
    refine e_aload_n dX4_readCard_178 0 rfl rfl rfl ?_
    refine e_iconst 0 dX4_readCard_179 rfl ?_
    refine e_bipush 19 dX4_readCard_180 rfl ?_
    refine e_callVQ (As := [.int 0, .int 19]) (rest := [.int (nI m), .ref 85]) dX4_readCard_182 rfl mvX4_433 (tw_o hp) rfl (t_count hp hn (by exact e30) (by exact e28) (t := t) (by exact hT) hW (by exact h33) (lo := 0) (hi := 19) (by decide) (by decide)) (Nat.le_of_ble_eq_true rfl) rfl rfl (Nat.le_of_ble_eq_true rfl) (Nat.zero_le _) (Nat.zero_le _) (fun v0 M0 h0 _ => ?_)
    obtain ⟨τ1, rfl, hS_1, h0⟩ := h0
    have e30_1 := (hS_1.1 30 (by decide)).trans e30
    have e28_1 := (hS_1.2.2.1 28 (by simp)).trans e28
    have h42_1 := (hS_1.1 42 (by decide)).trans (show _ = _ from h42)
    have hI_1 : InvN τ1 := hI.cg (hS_1.2.2.1 51 (by simp)) (hS_1.2.2.1 52 (by simp)) (hS_1.2.2.1 53 (by simp))
    rcases h0 with ⟨e_1, eq_1, rfl, hB_1⟩ | ⟨x_1, eq_1, rfl, h33_1, hT_1, hW_1, hw_1, hl_1, hu_1, hp_1⟩
    · refine e_iast (f := τ1.2.2.1 53) (j := m) dX4_readCard_185 (tw_a53 hp) rfl (by omega) (by decide) ?_
      rw [tw_s53 hp]
      exact t_rcB186 hp (τ0 := tA τ1 53 (upd (τ1.2.2.1 53) m 0)) (by exact hB_1) hm (by omega) (by exact hI_1.a53 (q := 0) (by omega)) (fun τ2 h1 h2 h3 h4 => hQ τ2 ⟨h1.trans (((hS_1.mono (by simp) (by simp) (by simp) (by simp)).trans Sx.rf).A _ (by decide)), h2.trans (((Bl.of hS_1).trans Bl.rf).A _), h3, Or.inl ⟨e_1, by rw [pz168, if_pos h170, pzCnt_eqL eq_1], h4⟩⟩)
    · refine e_iast (f := τ1.2.2.1 53) (j := m) dX4_readCard_185 (tw_a53 hp) rfl (by omega) (by decide) ?_
      rw [tw_s53 hp]
      refine t_rcO186 hp hn (τ0 := tA τ1 53 (upd (τ1.2.2.1 53) m (nI x_1.1))) (by exact e30_1) (by exact e28_1) (t := x_1.2) (by exact hT_1) hW_1 (by exact h33_1) (a0 := a0) hm (by exact h42_1) (by exact hI_1.a53 (by omega)) (by omega) (c := (K, a, b, c, x_1.1, 0, v, 0)) (by
        have hC1 := hC.sx hS_1
        refine ⟨hC1.1, hC1.2.1, fun z => (congrFun (hS_1.2.2.1 51 (by simp)) m).trans (hb z), fun z => (congrFun (hS_1.2.2.1 52 (by simp)) m).trans (hc z), fun _ => ?_, hC1.2.2.1, hC1.2.2.2, fun z => absurd (show 6 ≤ K from z) (by omega)⟩
        rw [tA_ss]; exact pk_us ..) (fun τ2 h => hQ τ2 ?_)
      rw [pz168, if_pos h170, pzCnt_eqR eq_1]
      exact h.tr (((hS_1.mono (by simp) (by simp) (by simp) (by simp)).trans Sx.rf).A _ (by decide)) (((Bl.of hS_1).trans Bl.rf).A _)

set_option maxHeartbeats 4000000 in
set_option maxRecDepth 100000 in
theorem t_rcO143 {pre post : List ACell} {τ0 : Tw} (hp : pre.length = 56) {f : Nat → Int32} {n : Nat} (hn : n ≤ 500) (e30 : τ0.1 30 = nI n) (e28 : τ0.2.2.1 28 = f) {t : Tok} (hT : TkOk τ0 t) (hW : TkW n t) (h33 : τ0.1 33 = 0) {m K a0 : Nat} (hm : m < 40) (h42 : τ0.1 42 = nI m) (hI : InvN τ0) (ha0 : a0 ≤ t.2.1) (hK : K ≤ 5) {a b : Nat} {v : Int64} (hC : Cp τ0 m K a v) (hb : 1 ≤ K ∧ K ≤ 4 → τ0.2.2.1 51 m = nI b) {Q : Qfun} (hQ : ∀ τ1, RcQ n m a0 (pz143 f n K a b v t) τ1 τ0 → Q none (TW pre τ1 post)) :
    E cX4_readCard (RX4, none, 3, 4, (0, 0), false, []) Q noX 0 0 143 [some (.ref 56), some (.int (nI K)), some (.int (nI m))] [] (TW pre τ0 post) := by
  have hw : t.1 ≤ 4 := hW.1
  have hb1 := (bdT_b t).1
  have hb2 := (bdT_b t).2
  refine e_iload_n dX4_readCard_143 1 rfl rfl ?_
  refine e_i2lN K (by omega) dX4_readCard_144 ?_
  refine e_lconst 1 dX4_readCard_145 rfl ?_
  refine e_ldc2 rfl q1577 dX4_readCard_146 ?_
  refine e_callSB (As := [.long (lN K), .long 1, .long 4]) (rest := []) dX4_readCard_149 rfl msX4_239 (t_isIn (lN K) 1 4) (Nat.le_of_ble_eq_true rfl) rfl rfl (Nat.le_of_ble_eq_true rfl) (Nat.zero_le _) (Nat.zero_le _) (fun h149 => ?_) (fun h149 => ?_)
  · have h149 : (1 ≤ lN K ∧ lN K ≤ 4) := h149
    have g149 : 1 ≤ K ∧ K ≤ 4 := (l14 (by omega)).mp h149
    refine e_if_eq_f (by decide) 168 dX4_readCard_152 (by decide) ?_
    refine e_aload_n dX4_readCard_155 0 rfl rfl rfl ?_
    refine e_getf (v := .ref 84) dX4_readCard_156 rfl fX4_110 (tw_o hp) rfl ?_
    refine e_iload_n dX4_readCard_159 2 rfl rfl ?_
    refine e_aload_n dX4_readCard_160 0 rfl rfl rfl ?_
    refine e_iconst 0 dX4_readCard_161 rfl ?_
    refine e_bipush 19 dX4_readCard_162 rfl ?_
    refine e_callVQ (As := [.int 0, .int 19]) (rest := [.int (nI m), .ref 84]) dX4_readCard_164 rfl mvX4_433 (tw_o hp) rfl (t_count hp hn (by exact e30) (by exact e28) (t := t) (by exact hT) hW (by exact h33) (lo := 0) (hi := 19) (by decide) (by decide)) (Nat.le_of_ble_eq_true rfl) rfl rfl (Nat.le_of_ble_eq_true rfl) (Nat.zero_le _) (Nat.zero_le _) (fun v0 M0 h0 _ => ?_)
    obtain ⟨τ1, rfl, hS_1, h0⟩ := h0
    have e30_1 := (hS_1.1 30 (by decide)).trans e30
    have e28_1 := (hS_1.2.2.1 28 (by simp)).trans e28
    have h42_1 := (hS_1.1 42 (by decide)).trans (show _ = _ from h42)
    have hI_1 : InvN τ1 := hI.cg (hS_1.2.2.1 51 (by simp)) (hS_1.2.2.1 52 (by simp)) (hS_1.2.2.1 53 (by simp))
    rcases h0 with ⟨e_1, eq_1, rfl, hB_1⟩ | ⟨x_1, eq_1, rfl, h33_1, hT_1, hW_1, hw_1, hl_1, hu_1, hp_1⟩
    · refine e_iast (f := τ1.2.2.1 52) (j := m) dX4_readCard_167 (tw_a52 hp) rfl (by omega) (by decide) ?_
      rw [tw_s52 hp]
      exact t_rcB168 hp (τ0 := tA τ1 52 (upd (τ1.2.2.1 52) m 0)) (by exact hB_1) hm (by omega) (by exact hI_1.a52 (q := 0) (by omega)) (fun τ2 h1 h2 h3 h4 => hQ τ2 ⟨h1.trans (((hS_1.mono (by simp) (by simp) (by simp) (by simp)).trans Sx.rf).A _ (by decide)), h2.trans (((Bl.of hS_1).trans Bl.rf).A _), h3, Or.inl ⟨e_1, by rw [pz143, if_pos g149, pzCnt_eqL eq_1], h4⟩⟩)
    · refine e_iast (f := τ1.2.2.1 52) (j := m) dX4_readCard_167 (tw_a52 hp) rfl (by omega) (by decide) ?_
      rw [tw_s52 hp]
      refine t_rcO168 hp hn (τ0 := tA τ1 52 (upd (τ1.2.2.1 52) m (nI x_1.1))) (by exact e30_1) (by exact e28_1) (t := x_1.2) (by exact hT_1) hW_1 (by exact h33_1) (a0 := a0) hm (by exact h42_1) (by exact hI_1.a52 (by omega)) (by omega) hK (c := x_1.1) (show Cp τ1 m K a v from hC.sx hS_1) (fun z => (congrFun (hS_1.2.2.1 51 (by simp)) m).trans (hb z)) (fun _ => (by rw [tA_ss]; exact pk_us ..)) (fun τ2 h => hQ τ2 ?_)
      rw [pz143, if_pos g149, pzCnt_eqR eq_1]
      exact h.tr (((hS_1.mono (by simp) (by simp) (by simp) (by simp)).trans Sx.rf).A _ (by decide)) (((Bl.of hS_1).trans Bl.rf).A _)
  · have h149 : ¬ (1 ≤ lN K ∧ lN K ≤ 4) := h149
    have g149 : ¬ (1 ≤ K ∧ K ≤ 4) := fun z => h149 ((l14 (by omega)).mpr z)
    refine e_if_eq_t 168 (by decide) dX4_readCard_152 (by decide) ?_
    refine t_rcO168 hp hn e30 e28 hT hW h33 (a0 := a0) hm h42 hI ha0 hK (c := 0) hC hb (fun z => absurd z g149) (fun τ2 h => hQ τ2 ?_)
    rw [pz143, if_neg g149]
    exact h

set_option maxHeartbeats 4000000 in
set_option maxRecDepth 100000 in
theorem t_rcO118 {pre post : List ACell} {τ0 : Tw} (hp : pre.length = 56) {f : Nat → Int32} {n : Nat} (hn : n ≤ 500) (e30 : τ0.1 30 = nI n) (e28 : τ0.2.2.1 28 = f) {t : Tok} (hT : TkOk τ0 t) (hW : TkW n t) (h33 : τ0.1 33 = 0) {m K a0 : Nat} (hm : m < 40) (h42 : τ0.1 42 = nI m) (hI : InvN τ0) (ha0 : a0 ≤ t.2.1) (hK : K ≤ 5) {a : Nat} {v : Int64} (hC : Cp τ0 m K a v) {Q : Qfun} (hQ : ∀ τ1, RcQ n m a0 (pz118 f n K a v t) τ1 τ0 → Q none (TW pre τ1 post)) :
    E cX4_readCard (RX4, none, 3, 4, (0, 0), false, []) Q noX 0 0 118 [some (.ref 56), some (.int (nI K)), some (.int (nI m))] [] (TW pre τ0 post) := by
  have hw : t.1 ≤ 4 := hW.1
  have hb1 := (bdT_b t).1
  have hb2 := (bdT_b t).2
  refine e_iload_n dX4_readCard_118 1 rfl rfl ?_
  refine e_i2lN K (by omega) dX4_readCard_119 ?_
  refine e_lconst 1 dX4_readCard_120 rfl ?_
  refine e_ldc2 rfl q1577 dX4_readCard_121 ?_
  refine e_callSB (As := [.long (lN K), .long 1, .long 4]) (rest := []) dX4_readCard_124 rfl msX4_239 (t_isIn (lN K) 1 4) (Nat.le_of_ble_eq_true rfl) rfl rfl (Nat.le_of_ble_eq_true rfl) (Nat.zero_le _) (Nat.zero_le _) (fun h124 => ?_) (fun h124 => ?_)
  · have h124 : (1 ≤ lN K ∧ lN K ≤ 4) := h124
    have g124 : 1 ≤ K ∧ K ≤ 4 := (l14 (by omega)).mp h124
    refine e_if_eq_f (by decide) 143 dX4_readCard_127 (by decide) ?_
    refine e_aload_n dX4_readCard_130 0 rfl rfl rfl ?_
    refine e_getf (v := .ref 83) dX4_readCard_131 rfl fX4_107 (tw_o hp) rfl ?_
    refine e_iload_n dX4_readCard_134 2 rfl rfl ?_
    refine e_aload_n dX4_readCard_135 0 rfl rfl rfl ?_
    refine e_iconst 0 dX4_readCard_136 rfl ?_
    refine e_bipush 19 dX4_readCard_137 rfl ?_
    refine e_callVQ (As := [.int 0, .int 19]) (rest := [.int (nI m), .ref 83]) dX4_readCard_139 rfl mvX4_433 (tw_o hp) rfl (t_count hp hn (by exact e30) (by exact e28) (t := t) (by exact hT) hW (by exact h33) (lo := 0) (hi := 19) (by decide) (by decide)) (Nat.le_of_ble_eq_true rfl) rfl rfl (Nat.le_of_ble_eq_true rfl) (Nat.zero_le _) (Nat.zero_le _) (fun v0 M0 h0 _ => ?_)
    obtain ⟨τ1, rfl, hS_1, h0⟩ := h0
    have e30_1 := (hS_1.1 30 (by decide)).trans e30
    have e28_1 := (hS_1.2.2.1 28 (by simp)).trans e28
    have h42_1 := (hS_1.1 42 (by decide)).trans (show _ = _ from h42)
    have hI_1 : InvN τ1 := hI.cg (hS_1.2.2.1 51 (by simp)) (hS_1.2.2.1 52 (by simp)) (hS_1.2.2.1 53 (by simp))
    rcases h0 with ⟨e_1, eq_1, rfl, hB_1⟩ | ⟨x_1, eq_1, rfl, h33_1, hT_1, hW_1, hw_1, hl_1, hu_1, hp_1⟩
    · refine e_iast (f := τ1.2.2.1 51) (j := m) dX4_readCard_142 (tw_a51 hp) rfl (by omega) (by decide) ?_
      rw [tw_s51 hp]
      exact t_rcB143 hp (τ0 := tA τ1 51 (upd (τ1.2.2.1 51) m 0)) (by exact hB_1) hm (by omega) (by exact hI_1.a51 (q := 0) (by omega)) (fun τ2 h1 h2 h3 h4 => hQ τ2 ⟨h1.trans (((hS_1.mono (by simp) (by simp) (by simp) (by simp)).trans Sx.rf).A _ (by decide)), h2.trans (((Bl.of hS_1).trans Bl.rf).A _), h3, Or.inl ⟨e_1, by rw [pz118, if_pos g124, pzCnt_eqL eq_1], h4⟩⟩)
    · refine e_iast (f := τ1.2.2.1 51) (j := m) dX4_readCard_142 (tw_a51 hp) rfl (by omega) (by decide) ?_
      rw [tw_s51 hp]
      refine t_rcO143 hp hn (τ0 := tA τ1 51 (upd (τ1.2.2.1 51) m (nI x_1.1))) (by exact e30_1) (by exact e28_1) (t := x_1.2) (by exact hT_1) hW_1 (by exact h33_1) (a0 := a0) hm (by exact h42_1) (by exact hI_1.a51 (by omega)) (by omega) hK (b := x_1.1) (show Cp τ1 m K a v from hC.sx hS_1) (fun _ => (by rw [tA_ss]; exact pk_us ..)) (fun τ2 h => hQ τ2 ?_)
      rw [pz118, if_pos g124, pzCnt_eqR eq_1]
      exact h.tr (((hS_1.mono (by simp) (by simp) (by simp) (by simp)).trans Sx.rf).A _ (by decide)) (((Bl.of hS_1).trans Bl.rf).A _)
  · have h124 : ¬ (1 ≤ lN K ∧ lN K ≤ 4) := h124
    have g124 : ¬ (1 ≤ K ∧ K ≤ 4) := fun z => h124 ((l14 (by omega)).mpr z)
    refine e_if_eq_t 143 (by decide) dX4_readCard_127 (by decide) ?_
    refine t_rcO143 hp hn e30 e28 hT hW h33 (a0 := a0) hm h42 hI ha0 hK (b := 0) hC (fun z => absurd z g124) (fun τ2 h => hQ τ2 ?_)
    rw [pz118, if_neg g124]
    exact h

theorem pzWho_eqR {f : Nat → Int32} {n : Nat} {t : Tok} {x : Int64 × Tok} (h : pzWho f n t = .inr x) {β : Type} (g : Int64 × Tok → Er ⊕ β) : bdE (pzWho f n t) g = g x := by rw [h]; rfl
theorem pzWho_eqL {f : Nat → Int32} {n : Nat} {t : Tok} {x : Er} (h : pzWho f n t = .inl x) {β : Type} (g : Int64 × Tok → Er ⊕ β) : bdE (pzWho f n t) g = .inl x := by rw [h]; rfl
theorem pzJmp_eqR {f : Nat → Int32} {n : Nat} {t : Tok} {x : Nat × Nat × Tok} (h : pzJmp f n t = .inr x) {β : Type} (g : Nat × Nat × Tok → Er ⊕ β) : bdE (pzJmp f n t) g = g x := by rw [h]; rfl
theorem pzJmp_eqL {f : Nat → Int32} {n : Nat} {t : Tok} {x : Er} (h : pzJmp f n t = .inl x) {β : Type} (g : Nat × Nat × Tok → Er ⊕ β) : bdE (pzJmp f n t) g = .inl x := by rw [h]; rfl
set_option maxHeartbeats 4000000 in
set_option maxRecDepth 100000 in
theorem t_rcO109 {pre post : List ACell} {τ0 : Tw} (hp : pre.length = 56) {f : Nat → Int32} {n : Nat} (hn : n ≤ 500) (e30 : τ0.1 30 = nI n) (e28 : τ0.2.2.1 28 = f) {t : Tok} (hT : TkOk τ0 t) (hW : TkW n t) (h33 : τ0.1 33 = 0) {m K a0 : Nat} (hm : m < 40) (h42 : τ0.1 42 = nI m) (hI : InvN τ0) (ha0 : a0 ≤ t.2.1) (hK : K ≤ 5) {a : Nat} (hC : Cp τ0 m K a 0) {Q : Qfun} (hQ : ∀ τ1, RcQ n m a0 (pz109 f n K a t) τ1 τ0 → Q none (TW pre τ1 post)) :
    E cX4_readCard (RX4, none, 3, 4, (0, 0), false, []) Q noX 0 0 109 [some (.ref 56), some (.int (nI K)), some (.int (nI m))] [] (TW pre τ0 post) := by
  have hw : t.1 ≤ 4 := hW.1
  have hb1 := (bdT_b t).1
  have hb2 := (bdT_b t).2
  refine e_iload_n dX4_readCard_109 1 rfl rfl ?_
  refine e_if_neN K 118 (by omega) dX4_readCard_110 (by decide) (fun h110 => ?_) (fun h110 => ?_)
  · refine t_rcO118 hp hn e30 e28 hT hW h33 (a0 := a0) hm h42 hI ha0 hK (a := a) (v := 0) hC (fun τ2 h => hQ τ2 ?_)
    rw [pz109, if_neg h110]
    exact h
  · refine e_aload_n dX4_readCard_113 0 rfl rfl rfl ?_
    refine e_iload_n dX4_readCard_114 2 rfl rfl ?_
    refine e_callVQ (As := [.int (nI m)]) (rest := []) dX4_readCard_115 rfl mvX4_436 (tw_o hp) rfl (t_whole hp hn (by exact e30) (by exact e28) (t := t) (by exact hT) hW (by exact h33) hm) (Nat.le_of_ble_eq_true rfl) rfl rfl (Nat.le_of_ble_eq_true rfl) (Nat.zero_le _) (Nat.zero_le _) (fun v0 M0 h0 _ => ?_)
    obtain ⟨τ1, rfl, rfl, hS_1, hl_1, h0⟩ := h0
    have e30_1 := (hS_1.1 30 (by decide)).trans e30
    have e28_1 := (hS_1.2.2.1 28 (by simp)).trans e28
    have h42_1 := (hS_1.1 42 (by decide)).trans (show _ = _ from h42)
    have hI_1 : InvN τ1 := hI.cg (hS_1.2.2.1 51 (by simp)) (hS_1.2.2.1 52 (by simp)) (hS_1.2.2.1 53 (by simp))
    rcases h0 with ⟨e_1, eq_1, hB_1⟩ | ⟨x_1, eq_1, h57_1, h33_1, hT_1, hW_1, hw_1, hp_1⟩
    · exact t_rcB118 hp hB_1 hm (by omega) hI_1 (fun τ2 h1 h2 h3 h4 => hQ τ2 ⟨h1.trans ((hS_1.mono (by simp) (by simp) (by simp) (by simp)).trans Sx.rf), h2.trans (hl_1.trans Bl.rf), h3, Or.inl ⟨e_1, by rw [pz109, if_pos h110, pzWho_eqL eq_1], h4⟩⟩)
    · refine t_rcO118 hp hn e30_1 e28_1 hT_1 hW_1 h33_1 (a0 := a0) hm h42_1 hI_1 (by omega) hK (a := a) (v := x_1.1) ⟨(congrFun (hS_1.2.2.1 49 (by simp)) m).trans hC.1, (congrFun (hS_1.2.2.1 50 (by simp)) m).trans hC.2.1, (congrFun (hS_1.2.2.1 54 (by simp)) m).trans hC.2.2.1, h57_1⟩ (fun τ2 h => hQ τ2 ?_)
      rw [pz109, if_pos h110, pzWho_eqR eq_1]
      exact h.tr ((hS_1.mono (by simp) (by simp) (by simp) (by simp)).trans Sx.rf) (hl_1.trans Bl.rf)

theorem t0_ne {t : Tok} (h : knT t < 8) : ¬ t.1 = 0 := by
  intro h0
  have h1 : ∀ w, ¬ wdT t w := fun w z => absurd (h0.symm.trans z.1) (by decide)
  unfold knT at h
  rw [if_neg (h1 _), if_neg (h1 _), if_neg (h1 _), if_neg (h1 _), if_neg (h1 _), if_neg (h1 _), if_neg (h1 _), if_neg (h1 _)] at h
  exact absurd h (by decide)
set_option maxHeartbeats 4000000 in
set_option maxRecDepth 100000 in
theorem t_readCard {pre post : List ACell} {τ0 : Tw} (hp : pre.length = 56) {f : Nat → Int32} {n : Nat} (hn : n ≤ 500) (e30 : τ0.1 30 = nI n) (e28 : τ0.2.2.1 28 = f) {t : Tok} (hT : TkOk τ0 t) (hW : TkW n t) (h33 : τ0.1 33 = 0) {m : Nat} (hm40 : m ≤ 40) (h42 : τ0.1 42 = nI m) (hI : InvN τ0) : Ct yX4_readCard (ws_ yX4_readCard cX4_readCard 3 none) 4 0 0 [.ref 56] (TW pre τ0 post) (fun v0 N => ∃ τ1, N = TW pre τ1 post ∧ v0 = none ∧ RcQ n m t.2.1 (pzCard f n m t) τ1 τ0) noX := by
  have hw : t.1 ≤ 4 := hW.1
  have hb1 := (bdT_b t).1
  have hb2 := (bdT_b t).2
  refine Ct.of (ini := false) (ls := [some (.ref 56), none, none]) (by decide) (Nat.le_of_ble_eq_true rfl) (fun h => by cases h) rfl ?_
  rcases kn_eq hT hw with ⟨h8, hkn⟩ | ⟨h8, hkn⟩
  · refine e_aload_n dX4_readCard_0 0 rfl rfl rfl ?_
    refine e_callV1 (As := []) (rest := []) dX4_readCard_1 rfl mvX4_423 (tw_o hp) rfl (t_cardKind hp) (Nat.le_of_ble_eq_true rfl) rfl rfl (Nat.le_of_ble_eq_true rfl) (Nat.zero_le _) (Nat.zero_le _) ?_
    refine e_top (congrArg Value.int hkn) ?_
    refine e_istore_n dX4_readCard_4 1 rfl (ls_1 rfl) (Nat.le_of_ble_eq_true rfl) ?_
    refine e_iload_n dX4_readCard_5 1 rfl rfl ?_
    refine e_if_ge_f (by decide) 13 dX4_readCard_6 (by decide) ?_
    refine e_aload_n dX4_readCard_9 0 rfl rfl rfl ?_
    refine e_callV0 (As := []) (rest := []) dX4_readCard_10 rfl mvX4_409 (tw_o hp) rfl (t_wrong0 hp (t := t) (by exact hT) hw (by exact h33)) (Nat.le_of_ble_eq_true rfl) rfl rfl (Nat.le_of_ble_eq_true rfl) (Nat.zero_le _) (Nat.zero_le _) ?_
    refine e_aload_n dX4_readCard_13 0 rfl rfl rfl ?_
    refine e_getf (v := .int (nI ((bdT t).1))) dX4_readCard_14 rfl fX4_400 (tw_o hp) rfl ?_
    refine e_if_neN ((bdT t).1) 38 (by omega) dX4_readCard_17 (by decide) (fun h17 => ?_) (fun h17 => ?_)
    · refine e_aload_n dX4_readCard_38 0 rfl rfl rfl ?_
      refine e_getf (v := .int (nI ((bdT t).1))) dX4_readCard_39 rfl fX4_400 (tw_o hp) rfl ?_
      refine e_if_leN ((bdT t).1) 46 (by omega) dX4_readCard_42 (by decide) (fun h42 => ?_) (fun h42 => ?_)
      · exact absurd h42 (by have := (bdT_b t).1; omega)
      · refine e_return dX4_readCard_45 rfl (Nat.zero_le _) (Nat.zero_le _) ?_
        refine ⟨_, rfl, rfl, ((Sx.rf.I _ (by decide)).I _ (by decide)), ((Bl.rf.I _ trivial).I _ trivial), by exact hI, Or.inl ⟨(bdT t), ?_, ⟨rfl, (bdT_b t).1, (bdT_b t).2, rfl⟩⟩⟩
        rw [pzCard, if_pos h8]
    · exact absurd h17 (by have := (bdT_b t).1; omega)
  · refine e_aload_n dX4_readCard_0 0 rfl rfl rfl ?_
    refine e_callV1 (As := []) (rest := []) dX4_readCard_1 rfl mvX4_423 (tw_o hp) rfl (t_cardKind hp) (Nat.le_of_ble_eq_true rfl) rfl rfl (Nat.le_of_ble_eq_true rfl) (Nat.zero_le _) (Nat.zero_le _) ?_
    refine e_top (congrArg Value.int hkn) ?_
    refine e_istore_n dX4_readCard_4 1 rfl (ls_1 rfl) (Nat.le_of_ble_eq_true rfl) ?_
    refine e_iload_n dX4_readCard_5 1 rfl rfl ?_
    refine e_if_ge 13 dX4_readCard_6 (by decide) (fun h6 => ?_) (fun h6 => ?_)
    · refine e_aload_n dX4_readCard_13 0 rfl rfl rfl ?_
      refine e_getf (v := .int (τ0.1 33)) dX4_readCard_14 rfl fX4_400 (tw_o hp) rfl ?_
      refine e_top (congrArg Value.int h33) ?_
      refine e_if_ne_f (by decide) 38 dX4_readCard_17 (by decide) ?_
      refine e_aload_n dX4_readCard_20 0 rfl rfl rfl ?_
      refine e_getf (v := .int (τ0.1 42)) dX4_readCard_21 rfl fX4_427 (tw_o hp) rfl ?_
      refine e_top (congrArg Value.int h42) ?_
      refine e_bipush 40 dX4_readCard_24 rfl ?_
      refine e_icmp_neN m 40 38 (by omega) (by omega) dX4_readCard_26 (by decide) (fun h26 => ?_) (fun h26 => ?_)
      · refine e_aload_n dX4_readCard_38 0 rfl rfl rfl ?_
        refine e_getf (v := .int (τ0.1 33)) dX4_readCard_39 rfl fX4_400 (tw_o hp) rfl ?_
        refine e_top (congrArg Value.int h33) ?_
        refine e_if_le_t 46 (by decide) dX4_readCard_42 (by decide) ?_
        refine e_aload_n dX4_readCard_46 0 rfl rfl rfl ?_
        refine e_getf (v := .int (τ0.1 42)) dX4_readCard_47 rfl fX4_427 (tw_o hp) rfl ?_
        refine e_top (congrArg Value.int h42) ?_
        refine e_istore_n dX4_readCard_50 2 rfl (ls_s (ls_1 rfl)) (Nat.le_of_ble_eq_true rfl) ?_
        refine e_aload_n dX4_readCard_51 0 rfl rfl rfl ?_
        refine e_getf (v := .ref 81) dX4_readCard_52 rfl fX4_101 (tw_o hp) rfl ?_
        refine e_iload_n dX4_readCard_55 2 rfl rfl ?_
        refine e_iload_n dX4_readCard_56 1 rfl rfl ?_
        refine e_iast (f := τ0.2.2.1 49) (j := m) dX4_readCard_57 (tw_a49 hp) rfl (by omega) (by decide) ?_
        rw [tw_s49 hp]
        refine e_aload_n dX4_readCard_58 0 rfl rfl rfl ?_
        refine e_getf (v := .ref 86) dX4_readCard_59 rfl fX4_116 (tw_o hp) rfl ?_
        refine e_iload_n dX4_readCard_62 2 rfl rfl ?_
        refine e_iconst 0 dX4_readCard_63 rfl ?_
        refine e_iast (f := τ0.2.2.1 54) (j := m) dX4_readCard_64 (tw_a54 hp) rfl (by omega) (by decide) ?_
        rw [tw_s54 hp]
        refine e_aload_n dX4_readCard_65 0 rfl rfl rfl ?_
        refine e_getf (v := .ref 89) dX4_readCard_66 rfl fX4_125 (tw_o hp) rfl ?_
        refine e_iload_n dX4_readCard_69 2 rfl rfl ?_
        refine e_lconst 0 dX4_readCard_70 rfl ?_
        refine e_last (f := τ0.2.2.2 57) (j := m) dX4_readCard_71 (tw_a57 hp) rfl (by omega) (by decide) ?_
        rw [tw_s57 hp]
        refine e_aload_n dX4_readCard_72 0 rfl rfl rfl ?_
        refine e_callVQ (As := []) (rest := []) dX4_readCard_73 rfl mvX4_412 (tw_o hp) rfl (t_nextT hp hn (by exact e30) (by exact e28) (t := t) (by exact hT) hW) (Nat.le_of_ble_eq_true rfl) rfl rfl (Nat.le_of_ble_eq_true rfl) (Nat.zero_le _) (Nat.zero_le _) (fun v0 M0 h0 _ => ?_)
        obtain ⟨τ1, rfl, rfl, hS_1, hT_1, hW_1, hw_1⟩ := h0
        have e30_1 := (hS_1.1 30 (by decide)).trans e30
        have e28_1 := (hS_1.2.2.1 28 (by simp)).trans e28
        have h33_1 := (hS_1.1 33 (by decide)).trans (show _ = _ from h33)
        have h42_1 := (hS_1.1 42 (by decide)).trans (show _ = _ from h42)
        have hI_1 : InvN τ1 := hI.cg (hS_1.2.2.1 51 (by simp)) (hS_1.2.2.1 52 (by simp)) (hS_1.2.2.1 53 (by simp))
        refine e_iload_n dX4_readCard_76 1 rfl rfl ?_
        refine e_bipush 6 dX4_readCard_77 rfl ?_
        refine e_icmp_eqN (knT t) 6 88 (by omega) (by omega) dX4_readCard_79 (by decide) (fun h79 => ?_) (fun h79 => ?_)
        · refine e_aload_n dX4_readCard_88 0 rfl rfl rfl ?_
          refine e_iload_n dX4_readCard_89 2 rfl rfl ?_
          refine e_callVQ (As := [.int (nI m)]) (rest := []) dX4_readCard_90 rfl mvX4_430 (tw_o hp) rfl (t_jump hp hn (by exact e30_1) (by exact e28_1) (t := (nxT f n t)) (by exact hT_1) hW_1 (by exact h33_1) (show m < 40 by omega)) (Nat.le_of_ble_eq_true rfl) rfl rfl (Nat.le_of_ble_eq_true rfl) (Nat.zero_le _) (Nat.zero_le _) (fun v0 M0 h0 _ => ?_)
          obtain ⟨τ2, rfl, rfl, hS_2, hl_2, h0⟩ := h0
          have e30_2 := (hS_2.1 30 (by decide)).trans e30_1
          have e28_2 := (hS_2.2.2.1 28 (by simp)).trans e28_1
          have h42_2 := (hS_2.1 42 (by decide)).trans (show _ = _ from h42_1)
          have hI_2 : InvN τ2 := hI_1.cg (hS_2.2.2.1 51 (by simp)) (hS_2.2.2.1 52 (by simp)) (hS_2.2.2.1 53 (by simp))
          rcases h0 with ⟨e_2, eq_2, hB_2⟩ | ⟨x_2, eq_2, h50_2, h54_2, h55_2, hlo_2, hhi_2, h33_2, hT_2, hW_2, hw_2, hp_2⟩
          · refine e_goto 186 dX4_readCard_93 (by decide) ?_
            exact t_rcB186 hp hB_2 (show m < 40 by omega) (show knT t ≤ 7 by omega) hI_2 (fun τ9 h1 h2 h3 h4 => ⟨τ9, rfl, rfl, h1.trans ((hS_2.mono (by simp) (by simp) (by simp) (by simp)).trans ((hS_1.mono (by simp) (by simp) (by simp) (by simp)).trans (((Sx.rf.A _ (by decide)).A _ (by decide)).B _ (by decide)))), h2.trans (hl_2.trans ((Bl.of hS_1).trans (((Bl.rf.A _).A _).B _))), h3, Or.inl ⟨e_2, by rw [pzCard, if_neg (by omega), if_neg (by omega), if_pos (by omega), pz88, pzJmp_eqL eq_2], h4⟩⟩)
          · refine e_goto 186 dX4_readCard_93 (by decide) ?_
            have hpl := hW.2.2.2 (t0_ne h8)
            have hpl2 := (nxT_w (f := f) hW).2
            refine t_rcO186 hp hn e30_2 e28_2 hT_2 hW_2 h33_2 (K := knT t) (a0 := t.2.1) (show m < 40 by omega) h42_2 hI_2 (by omega) (c := (knT t, x_2.1, 0, 0, 0, x_2.2.1, 0, (nxT f n t).2.1)) ⟨(congrFun (hS_2.2.2.1 49 (by simp)) m).trans ((congrFun (hS_1.2.2.1 49 (by simp)) m).trans (by rw [tB_A, tA_sn (by decide), tA_ss]; exact pk_us ..)), h50_2, fun z => absurd (show knT t ≤ 4 from z.2) (by omega), fun z => absurd (show knT t ≤ 4 from z.2) (by omega), fun z => absurd (show knT t = 4 from z) (by omega), ?_, (congrFun (hS_2.2.2.2 57 (by simp)) m).trans ((congrFun (hS_1.2.2.2 57 (by simp)) m).trans (by rw [tB_ss]; exact pk_uLs ..)), fun _ => h55_2⟩ (fun τ9 h => ⟨τ9, rfl, rfl, ?_⟩)
            · show τ2.2.2.1 54 m = nI x_2.2.1
              rcases h54_2 with ⟨h9, h10⟩ | ⟨-, h10⟩
              · rw [h9, h10, hS_1.2.2.1 54 (by simp)]
                rw [tB_A, tA_ss]; exact pk_us ..
              · exact h10
            · rw [pzCard, if_neg (by omega), if_neg (by omega), if_pos (by omega), pz88, pzJmp_eqR eq_2]
              exact h.tr ((hS_2.mono (by simp) (by simp) (by simp) (by simp)).trans ((hS_1.mono (by simp) (by simp) (by simp) (by simp)).trans (((Sx.rf.A _ (by decide)).A _ (by decide)).B _ (by decide)))) (hl_2.trans ((Bl.of hS_1).trans (((Bl.rf.A _).A _).B _)))
        · refine e_iload_n dX4_readCard_82 1 rfl rfl ?_
          refine e_bipush 7 dX4_readCard_83 rfl ?_
          refine e_icmp_neN (knT t) 7 96 (by omega) (by omega) dX4_readCard_85 (by decide) (fun h85 => ?_) (fun h85 => ?_)
          · refine e_aload_n dX4_readCard_96 0 rfl rfl rfl ?_
            refine e_getf (v := .ref 82) dX4_readCard_97 rfl fX4_104 (tw_o hp) rfl ?_
            refine e_iload_n dX4_readCard_100 2 rfl rfl ?_
            refine e_aload_n dX4_readCard_101 0 rfl rfl rfl ?_
            refine e_iconst 0 dX4_readCard_102 rfl ?_
            refine e_bipush 19 dX4_readCard_103 rfl ?_
            refine e_callVQ (As := [.int 0, .int 19]) (rest := [.int (nI m), .ref 82]) dX4_readCard_105 rfl mvX4_433 (tw_o hp) rfl (t_count hp hn (by exact e30_1) (by exact e28_1) (t := (nxT f n t)) (by exact hT_1) hW_1 (by exact h33_1) (lo := 0) (hi := 19) (by decide) (by decide)) (Nat.le_of_ble_eq_true rfl) rfl rfl (Nat.le_of_ble_eq_true rfl) (Nat.zero_le _) (Nat.zero_le _) (fun v0 M0 h0 _ => ?_)
            obtain ⟨τ3, rfl, hS_3, h0⟩ := h0
            have e30_3 := (hS_3.1 30 (by decide)).trans e30_1
            have e28_3 := (hS_3.2.2.1 28 (by simp)).trans e28_1
            have h42_3 := (hS_3.1 42 (by decide)).trans (show _ = _ from h42_1)
            have hI_3 : InvN τ3 := hI_1.cg (hS_3.2.2.1 51 (by simp)) (hS_3.2.2.1 52 (by simp)) (hS_3.2.2.1 53 (by simp))
            rcases h0 with ⟨e_3, eq_3, rfl, hB_3⟩ | ⟨x_3, eq_3, rfl, h33_3, hT_3, hW_3, hw_3, hl_3, hu_3, hp_3⟩
            · refine e_iast (f := τ3.2.2.1 50) (j := m) dX4_readCard_108 (tw_a50 hp) rfl (by omega) (by decide) ?_
              rw [tw_s50 hp]
              exact t_rcB109 hp (τ0 := tA τ3 50 (upd (τ3.2.2.1 50) m 0)) (by exact hB_3) (show m < 40 by omega) (show knT t ≤ 7 by omega) (by exact hI_3) (fun τ9 h1 h2 h3 h4 => ⟨τ9, rfl, rfl, h1.trans (((hS_3.mono (by simp) (by simp) (by simp) (by simp)).trans ((hS_1.mono (by simp) (by simp) (by simp) (by simp)).trans (((Sx.rf.A _ (by decide)).A _ (by decide)).B _ (by decide)))).A _ (by decide)), h2.trans (((Bl.of hS_3).trans ((Bl.of hS_1).trans (((Bl.rf.A _).A _).B _))).A _), h3, Or.inl ⟨e_3, by rw [pzCard, if_neg (by omega), if_neg (by omega), if_neg (by omega), pz96, pzCnt_eqL eq_3], h4⟩⟩)
            · refine e_iast (f := τ3.2.2.1 50) (j := m) dX4_readCard_108 (tw_a50 hp) rfl (by omega) (by decide) ?_
              rw [tw_s50 hp]
              have hpl := hW.2.2.2 (t0_ne h8)
              have hpl2 := (nxT_w (f := f) hW).2
              refine t_rcO109 hp hn (τ0 := tA τ3 50 (upd (τ3.2.2.1 50) m (nI x_3.1))) (by exact e30_3) (by exact e28_3) (t := x_3.2) (by exact hT_3) hW_3 (by exact h33_3) (K := knT t) (a0 := t.2.1) (show m < 40 by omega) (by exact h42_3) (by exact hI_3) (by omega) (by omega) (a := x_3.1) ⟨(congrFun (hS_3.2.2.1 49 (by simp)) m).trans ((congrFun (hS_1.2.2.1 49 (by simp)) m).trans (by rw [tB_A, tA_sn (by decide), tA_ss]; exact pk_us ..)), by rw [tA_ss]; exact pk_us .., (congrFun (hS_3.2.2.1 54 (by simp)) m).trans ((congrFun (hS_1.2.2.1 54 (by simp)) m).trans (by rw [tB_A, tA_ss]; exact pk_us ..)), (congrFun (hS_3.2.2.2 57 (by simp)) m).trans ((congrFun (hS_1.2.2.2 57 (by simp)) m).trans (by rw [tB_ss]; exact pk_uLs ..))⟩ (fun τ9 h => ⟨τ9, rfl, rfl, ?_⟩)
              rw [pzCard, if_neg (by omega), if_neg (by omega), if_neg (by omega), pz96, pzCnt_eqR eq_3]
              exact h.tr (((hS_3.mono (by simp) (by simp) (by simp) (by simp)).trans ((hS_1.mono (by simp) (by simp) (by simp) (by simp)).trans (((Sx.rf.A _ (by decide)).A _ (by decide)).B _ (by decide)))).A _ (by decide)) (((Bl.of hS_3).trans ((Bl.of hS_1).trans (((Bl.rf.A _).A _).B _))).A _)
          · refine e_aload_n dX4_readCard_88 0 rfl rfl rfl ?_
            refine e_iload_n dX4_readCard_89 2 rfl rfl ?_
            refine e_callVQ (As := [.int (nI m)]) (rest := []) dX4_readCard_90 rfl mvX4_430 (tw_o hp) rfl (t_jump hp hn (by exact e30_1) (by exact e28_1) (t := (nxT f n t)) (by exact hT_1) hW_1 (by exact h33_1) (show m < 40 by omega)) (Nat.le_of_ble_eq_true rfl) rfl rfl (Nat.le_of_ble_eq_true rfl) (Nat.zero_le _) (Nat.zero_le _) (fun v0 M0 h0 _ => ?_)
            obtain ⟨τ4, rfl, rfl, hS_4, hl_4, h0⟩ := h0
            have e30_4 := (hS_4.1 30 (by decide)).trans e30_1
            have e28_4 := (hS_4.2.2.1 28 (by simp)).trans e28_1
            have h42_4 := (hS_4.1 42 (by decide)).trans (show _ = _ from h42_1)
            have hI_4 : InvN τ4 := hI_1.cg (hS_4.2.2.1 51 (by simp)) (hS_4.2.2.1 52 (by simp)) (hS_4.2.2.1 53 (by simp))
            rcases h0 with ⟨e_4, eq_4, hB_4⟩ | ⟨x_4, eq_4, h50_4, h54_4, h55_4, hlo_4, hhi_4, h33_4, hT_4, hW_4, hw_4, hp_4⟩
            · refine e_goto 186 dX4_readCard_93 (by decide) ?_
              exact t_rcB186 hp hB_4 (show m < 40 by omega) (show knT t ≤ 7 by omega) hI_4 (fun τ9 h1 h2 h3 h4 => ⟨τ9, rfl, rfl, h1.trans ((hS_4.mono (by simp) (by simp) (by simp) (by simp)).trans ((hS_1.mono (by simp) (by simp) (by simp) (by simp)).trans (((Sx.rf.A _ (by decide)).A _ (by decide)).B _ (by decide)))), h2.trans (hl_4.trans ((Bl.of hS_1).trans (((Bl.rf.A _).A _).B _))), h3, Or.inl ⟨e_4, by rw [pzCard, if_neg (by omega), if_neg (by omega), if_pos (by omega), pz88, pzJmp_eqL eq_4], h4⟩⟩)
            · refine e_goto 186 dX4_readCard_93 (by decide) ?_
              have hpl := hW.2.2.2 (t0_ne h8)
              have hpl2 := (nxT_w (f := f) hW).2
              refine t_rcO186 hp hn e30_4 e28_4 hT_4 hW_4 h33_4 (K := knT t) (a0 := t.2.1) (show m < 40 by omega) h42_4 hI_4 (by omega) (c := (knT t, x_4.1, 0, 0, 0, x_4.2.1, 0, (nxT f n t).2.1)) ⟨(congrFun (hS_4.2.2.1 49 (by simp)) m).trans ((congrFun (hS_1.2.2.1 49 (by simp)) m).trans (by rw [tB_A, tA_sn (by decide), tA_ss]; exact pk_us ..)), h50_4, fun z => absurd (show knT t ≤ 4 from z.2) (by omega), fun z => absurd (show knT t ≤ 4 from z.2) (by omega), fun z => absurd (show knT t = 4 from z) (by omega), ?_, (congrFun (hS_4.2.2.2 57 (by simp)) m).trans ((congrFun (hS_1.2.2.2 57 (by simp)) m).trans (by rw [tB_ss]; exact pk_uLs ..)), fun _ => h55_4⟩ (fun τ9 h => ⟨τ9, rfl, rfl, ?_⟩)
              · show τ4.2.2.1 54 m = nI x_4.2.1
                rcases h54_4 with ⟨h9, h10⟩ | ⟨-, h10⟩
                · rw [h9, h10, hS_1.2.2.1 54 (by simp)]
                  rw [tB_A, tA_ss]; exact pk_us ..
                · exact h10
              · rw [pzCard, if_neg (by omega), if_neg (by omega), if_pos (by omega), pz88, pzJmp_eqR eq_4]
                exact h.tr ((hS_4.mono (by simp) (by simp) (by simp) (by simp)).trans ((hS_1.mono (by simp) (by simp) (by simp) (by simp)).trans (((Sx.rf.A _ (by decide)).A _ (by decide)).B _ (by decide)))) (hl_4.trans ((Bl.of hS_1).trans (((Bl.rf.A _).A _).B _)))
      · refine e_aload_n dX4_readCard_29 0 rfl rfl rfl ?_
        refine e_iconst 3 dX4_readCard_30 rfl ?_
        refine e_aload_n dX4_readCard_31 0 rfl rfl rfl ?_
        refine e_getf (v := .int (τ0.1 36)) dX4_readCard_32 rfl fX4_369 (tw_o hp) rfl ?_
        refine e_top (congrArg Value.int hT.2.1) ?_
        refine e_callV0 (As := [.int 3, .int (nI t.2.1)]) (rest := []) dX4_readCard_35 rfl mvX4_406 (tw_o hp) rfl (t_fail0 hp 3 (nI t.2.1) (by exact h33)) (Nat.le_of_ble_eq_true rfl) rfl rfl (Nat.le_of_ble_eq_true rfl) (Nat.zero_le _) (Nat.zero_le _) ?_
        refine e_aload_n dX4_readCard_38 0 rfl rfl rfl ?_
        refine e_getf (v := .int 3) dX4_readCard_39 rfl fX4_400 (tw_o hp) rfl ?_
        refine e_if_le_f (by decide) 46 dX4_readCard_42 (by decide) ?_
        refine e_return dX4_readCard_45 rfl (Nat.zero_le _) (Nat.zero_le _) ?_
        refine ⟨_, rfl, rfl, ((Sx.rf.I _ (by decide)).I _ (by decide)), ((Bl.rf.I _ trivial).I _ trivial), by exact hI, Or.inl ⟨(3, t.2.1), ?_, ⟨rfl, by show 0 < 3; decide, by show 3 ≤ 5; decide, rfl⟩⟩⟩
        rw [pzCard, if_neg (by omega), if_pos h26]
    · exact absurd (nI_pos' (by omega)) h6

