/-! An edge's sides; quarrels by turn. -/
def eS (c r e k : Nat) : Nat := if k = m_fst c r e then m_sd c r e else (m_sd c r e + 2) % 4
theorem eS_lt (c r e k : Nat) : eS c r e k < 4 := by
  have := m_sd_lt c r e
  unfold eS; split <;> omega
theorem eS_fst (c r e : Nat) : eS c r e (m_fst c r e) = m_sd c r e := if_pos rfl
theorem eS_snd {c r e : Nat} (h : m_fst c r e < m_snd c r e) : eS c r e (m_snd c r e) = m_op (m_sd c r e) := by
  unfold eS
  rw [if_neg (by omega)]
  rcases m_sd_lt c r e with h | h <;> rw [h] <;> decide
abbrev qf (s : Nat → Int32) (c r e : Nat) : Nat → Bool := fun p => decide (0 < m_rs s c r e p)
/-- the quarrels of an edge in a list, in turn: those before p -/
def QlAt (h : GH) (s : Nat → Int32) (c r e p : Nat) (F : Nat → Option Nat) : Prop := ∀ p', p' < p → 0 < m_rs s c r e p' → ∃ a, F (cnt (qf s c r e) p') = some a ∧ h a = gO 5 [.int (nI p'), .int (nI (m_rs s c r e p'))]
theorem cnt_mono {f : Nat → Bool} {a b : Nat} (h : a ≤ b) : cnt f a ≤ cnt f b := by
  induction b with
  | zero => rw [show a = 0 by omega]; exact Nat.le_refl _
  | succ b ih =>
    by_cases e : a = b + 1
    · rw [e]; exact Nat.le_refl _
    · have := ih (by omega)
      show _ ≤ cnt f b + _
      omega
theorem cnt_lt {f : Nat → Bool} {a b : Nat} (h : a < b) (ha : f a = true) : cnt f a < cnt f b := by
  have h1 := cnt_s ha
  have h2 := cnt_mono (f := f) (show a + 1 ≤ b by omega)
  omega
theorem QlAt.add {h h' : GH} {s : Nat → Int32} {c r e p v : Nat} {F F' : Nat → Option Nat} (Q : QlAt h s c r e p F) (hr : 0 < m_rs s c r e p) (hF : ∀ i, i < cnt (qf s c r e) p → F' i = F i) (hv : F' (cnt (qf s c r e) p) = some v) (e1 : h' v = gO 5 [.int (nI p), .int (nI (m_rs s c r e p))]) (o : ∀ a x, h a = gO 5 x → h' a = h a) : QlAt h' s c r e (p + 1) F' := by
  intro p' hp hr'
  by_cases q : p' = p
  · subst q; exact ⟨v, hv, e1⟩
  · obtain ⟨a, g1, g2⟩ := Q p' (by omega) hr'
    exact ⟨a, by rw [hF _ (cnt_lt (by omega) (decide_eq_true hr'))]; exact g1, by rw [o a _ g2]; exact g2⟩
theorem QlAt.skip {h : GH} {s : Nat → Int32} {c r e p : Nat} {F : Nat → Option Nat} (Q : QlAt h s c r e p F) (hr : m_rs s c r e p = 0) : QlAt h s c r e (p + 1) F := by
  intro p' hp hr'
  exact Q p' (by rcases Nat.lt_or_ge p' p with q | q; exact q; rw [show p' = p by omega] at hr'; omega) hr'
/-- agreed or not -/
def MG (s : Nat → Int32) : Prop := ∀ e, e < 60 → s (4 + e) = nI 0 ∨ s (4 + e) = nI 1
theorem MG.n {s : Nat → Int32} (G : MG s) {e : Nat} (he : e < 60) : s (4 + e) = 0 ↔ ¬ s (4 + e) = 1 := by
  rcases G e he with h | h <;> rw [h] <;> decide
abbrev incE (c r : Nat) (x : Int32) (e : Nat) : Bool := decide (x = nI (m_fst c r e) ∨ x = nI (m_snd c r e))
/-- what the system's guard asks of an edge -/
def gdE (s : Nat → Int32) (c r : Nat) (x : Int32) (e : Nat) : Bool := !incE c r x e || (!decide (s (4 + e) = 1) || decide (m_qn s c r e = 0))
def efE (s : Nat → Int32) (c r : Nat) (x : Int32) (ag : Bool) (e : Nat) : Bool := incE c r x e && (!ag || decide (s (4 + e) = 1))
theorem bI_and (a b : Bool) : bI a &&& bI b = bI (a && b) := by cases a <;> cases b <;> decide
theorem bI_or (a b : Bool) : bI a ||| bI b = bI (a || b) := by cases a <;> cases b <;> decide
/-- what is agreed and not clean any more, is let go: of the first i edges -/
def xl (s : Nat → Int32) (c r : Nat) (x : Int32) (i : Nat) : Nat → Int32 := fun y => if 4 ≤ y ∧ y < 4 + i ∧ incE c r x (y - 4) = true ∧ m_qn s c r (y - 4) ≠ 0 then nI 0 else s y
theorem xl_0 (s : Nat → Int32) (c r : Nat) (x : Int32) : xl s c r x 0 = s := by funext y; unfold xl; rw [if_neg (by omega)]
theorem xl_hi {s : Nat → Int32} {c r : Nat} {x : Int32} {i y : Nat} (h : y < 4 ∨ 4 + i ≤ y) : xl s c r x i y = s y := by unfold xl; rw [if_neg (by omega)]
theorem xl_q {s : Nat → Int32} {c r : Nat} {x : Int32} {i : Nat} (hi : i ≤ 60) (e : Nat) : m_qn (xl s c r x i) c r e = m_qn s c r e := m_qn_congr (fun k hk => xl_hi (by omega)) c r e
theorem xl_n {s : Nat → Int32} {c r : Nat} {x : Int32} {i : Nat} (h : incE c r x i = false ∨ m_qn s c r i = 0) : upd (xl s c r x i) (4 + i) (s (4 + i)) = xl s c r x (i + 1) := by
  funext y
  unfold upd
  split
  · rename_i e
    subst e
    unfold xl
    rw [if_neg]
    rintro ⟨-, -, h1, h2⟩
    rw [show 4 + i - 4 = i by omega] at h1 h2
    rcases h with h | h
    · rw [h] at h1; cases h1
    · exact h2 h
  · rename_i e
    unfold xl
    by_cases q : 4 ≤ y ∧ y < 4 + i ∧ incE c r x (y - 4) = true ∧ m_qn s c r (y - 4) ≠ 0
    · rw [if_pos q, if_pos ⟨q.1, by omega, q.2.2⟩]
    · rw [if_neg q, if_neg (fun z => q ⟨z.1, by omega, z.2.2⟩)]
theorem xl_c {s : Nat → Int32} {c r : Nat} {x : Int32} {i : Nat} (h : incE c r x i = true) (h2 : m_qn s c r i ≠ 0) : upd (xl s c r x i) (4 + i) (nI 0) = xl s c r x (i + 1) := by
  funext y
  unfold upd
  split
  · rename_i e
    subst e
    unfold xl
    rw [if_pos ⟨by omega, by omega, by rw [show 4 + i - 4 = i by omega]; exact h, by rw [show 4 + i - 4 = i by omega]; exact h2⟩]
  · rename_i e
    unfold xl
    by_cases q : 4 ≤ y ∧ y < 4 + i ∧ incE c r x (y - 4) = true ∧ m_qn s c r (y - 4) ≠ 0
    · rw [if_pos q, if_pos ⟨q.1, by omega, q.2.2⟩]
    · rw [if_neg q, if_neg (fun z => q ⟨z.1, by omega, z.2.2⟩)]
theorem MG.and1 {s : Nat → Int32} (G : MG s) {e : Nat} (he : e < 60) : s (4 + e) &&& nI 1 = s (4 + e) := by
  rcases G e he with h | h <;> rw [h] <;> decide
theorem MG.and0 {s : Nat → Int32} (G : MG s) {e : Nat} (he : e < 60) : s (4 + e) &&& nI 0 = nI 0 := by
  rcases G e he with h | h <;> rw [h] <;> decide
theorem MG.nar {s : Nat → Int32} (G : MG s) {e : Nat} (he : e < 60) : narrow .boolean (.int (s (4 + e))) = .int (s (4 + e)) := by
  rcases G e he with h | h <;> rw [h] <;> rfl
/-- where an edge of a side stands -/
def eaP (c r k d : Nat) (e : Nat) : Prop := incE c r (nI k) e = true ∧ eS c r e k = d
theorem MG.fit {s : Nat → Int32} (G : MG s) {e : Nat} (he : e < 60) : fits .boolean (.int (s (4 + e))) = true := by
  rcases G e he with h | h <;> rw [h] <;> rfl
theorem bs_a {ag : Nat → Bool} {f : Nat → Int32} {P : Nat → Nat} {c r e N : Nat} (hf : ∀ k, k < N → f k = nI (P k)) (ha : ag e = true) : ∀ k, k < N → upd (upd f (m_fst c r e) (nI (min (P (m_fst c r e)) (P (m_snd c r e))))) (m_snd c r e) (nI (min (P (m_fst c r e)) (P (m_snd c r e)))) k = nI (m_bs ag c r P e k) := by
  intro k hk
  by_cases hd : P (m_fst c r e) = P (m_snd c r e)
  · have e1 : m_bs ag c r P e = P := by unfold m_bs; rw [if_neg (by rw [decide_eq_false (fun z => z hd), Bool.and_false]; decide)]
    rw [e1, hd, Nat.min_self]
    unfold upd
    split
    · rename_i q; rw [q]
    · split
      · rename_i q; rw [q, hd]
      · exact hf k hk
  · have e1 : m_bs ag c r P e k = if k = m_fst c r e ∨ k = m_snd c r e then (if P (m_fst c r e) < P (m_snd c r e) then P (m_fst c r e) else P (m_snd c r e)) else P k := by unfold m_bs; rw [if_pos (by rw [ha, decide_eq_true hd]; rfl)]
    have e2 : min (P (m_fst c r e)) (P (m_snd c r e)) = if P (m_fst c r e) < P (m_snd c r e) then P (m_fst c r e) else P (m_snd c r e) := by split <;> omega
    rw [e1, e2]
    unfold upd
    by_cases q1 : k = m_snd c r e
    · rw [if_pos q1, if_pos (Or.inr q1)]
    · rw [if_neg q1]
      by_cases q2 : k = m_fst c r e
      · rw [if_pos q2, if_pos (Or.inl q2)]
      · rw [if_neg q2, if_neg (fun z => z.elim q2 q1)]; exact hf k hk
theorem bs_n {ag : Nat → Bool} {f : Nat → Int32} {P : Nat → Nat} {c r e N : Nat} (hf : ∀ k, k < N → f k = nI (P k)) (ha : ag e = false) : ∀ k, k < N → upd (upd f (m_fst c r e) (f (m_fst c r e))) (m_snd c r e) (upd f (m_fst c r e) (f (m_fst c r e)) (m_snd c r e)) k = nI (m_bs ag c r P e k) := by
  intro k hk
  have e1 : m_bs ag c r P e = P := by unfold m_bs; rw [if_neg (by rw [ha, Bool.false_and]; decide)]
  have e2 : upd f (m_fst c r e) (f (m_fst c r e)) = f := by funext y; unfold upd; split; rename_i q; rw [q]; rfl
  have e3 : upd f (m_snd c r e) (f (m_snd c r e)) = f := by funext y; unfold upd; split; rename_i q; rw [q]; rfl
  rw [e1, e2, e3]
  exact hf k hk
