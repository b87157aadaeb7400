/-! An edge's sides; quarrels by turn. -/
def eS (c r e k : Nat) : Nat := if k = m_fst c r e then m_sd c r e else (m_sd c r e + 2) % 4
theorem eS_lt (c r e k : Nat) : eS c r e k < 4 := by
  have := m_sd_lt c r e
  unfold eS; split <;> omega
theorem eS_fst (c r e : Nat) : eS c r e (m_fst c r e) = m_sd c r e := if_pos rfl
theorem eS_snd {c r e : Nat} (h : m_fst c r e < m_snd c r e) : eS c r e (m_snd c r e) = m_op (m_sd c r e) := by
  unfold eS
  rw [if_neg (by omega)]
  rcases m_sd_lt c r e with h | h <;> rw [h] <;> decide
abbrev qf (s : Nat → Int32) (c r e : Nat) : Nat → Bool := fun p => decide (0 < m_rs s c r e p)
/-- the quarrels of an edge in a list, in turn: those before p -/
def QlAt (h : GH) (s : Nat → Int32) (c r e p : Nat) (F : Nat → Option Nat) : Prop := ∀ p', p' < p → 0 < m_rs s c r e p' → ∃ a, F (cnt (qf s c r e) p') = some a ∧ h a = gO 5 [.int (nI p'), .int (nI (m_rs s c r e p'))]
theorem cnt_mono {f : Nat → Bool} {a b : Nat} (h : a ≤ b) : cnt f a ≤ cnt f b := by
  induction b with
  | zero => rw [show a = 0 by omega]; exact Nat.le_refl _
  | succ b ih =>
    by_cases e : a = b + 1
    · rw [e]; exact Nat.le_refl _
    · have := ih (by omega)
      show _ ≤ cnt f b + _
      omega
theorem cnt_lt {f : Nat → Bool} {a b : Nat} (h : a < b) (ha : f a = true) : cnt f a < cnt f b := by
  have h1 := cnt_s ha
  have h2 := cnt_mono (f := f) (show a + 1 ≤ b by omega)
  omega
theorem QlAt.add {h h' : GH} {s : Nat → Int32} {c r e p v : Nat} {F F' : Nat → Option Nat} (Q : QlAt h s c r e p F) (hr : 0 < m_rs s c r e p) (hF : ∀ i, i < cnt (qf s c r e) p → F' i = F i) (hv : F' (cnt (qf s c r e) p) = some v) (e1 : h' v = gO 5 [.int (nI p), .int (nI (m_rs s c r e p))]) (o : ∀ a x, h a = gO 5 x → h' a = h a) : QlAt h' s c r e (p + 1) F' := by
  intro p' hp hr'
  by_cases q : p' = p
  · subst q; exact ⟨v, hv, e1⟩
  · obtain ⟨a, g1, g2⟩ := Q p' (by omega) hr'
    exact ⟨a, by rw [hF _ (cnt_lt (by omega) (decide_eq_true hr'))]; exact g1, by rw [o a _ g2]; exact g2⟩
theorem QlAt.skip {h : GH} {s : Nat → Int32} {c r e p : Nat} {F : Nat → Option Nat} (Q : QlAt h s c r e p F) (hr : m_rs s c r e p = 0) : QlAt h s c r e (p + 1) F := by
  intro p' hp hr'
  exact Q p' (by rcases Nat.lt_or_ge p' p with q | q; exact q; rw [show p' = p by omega] at hr'; omega) hr'
/-- agreed or not -/
def MG (s : Nat → Int32) : Prop := ∀ e, e < 60 → s (4 + e) = nI 0 ∨ s (4 + e) = nI 1
theorem MG.n {s : Nat → Int32} (G : MG s) {e : Nat} (he : e < 60) : s (4 + e) = 0 ↔ ¬ s (4 + e) = 1 := by
  rcases G e he with h | h <;> rw [h] <;> decide
abbrev incE (c r : Nat) (x : Int32) (e : Nat) : Bool := decide (x = nI (m_fst c r e) ∨ x = nI (m_snd c r e))
/-- what the system's guard asks of an edge -/
def gdE (s : Nat → Int32) (c r : Nat) (x : Int32) (e : Nat) : Bool := !incE c r x e || (!decide (s (4 + e) = 1) || decide (m_qn s c r e = 0))
def efE (s : Nat → Int32) (c r : Nat) (x : Int32) (ag : Bool) (e : Nat) : Bool := incE c r x e && (!ag || decide (s (4 + e) = 1))
theorem bI_and (a b : Bool) : bI a &&& bI b = bI (a && b) := by cases a <;> cases b <;> decide
theorem bI_or (a b : Bool) : bI a ||| bI b = bI (a || b) := by cases a <;> cases b <;> decide
