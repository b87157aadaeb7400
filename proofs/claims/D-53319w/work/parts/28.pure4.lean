/-! Texts: characters as numbers; items; what reading does. -/
abbrev tc (t : Nat → Int32) (j : Nat) : Nat := (t j).toNatClampNeg
def MT (t : Nat → Int32) (m : Nat) : Prop := m ≤ 100 ∧ ∀ j, j < m → t j = nI (tc t j) ∧ 32 ≤ tc t j ∧ tc t j ≤ 126
def t_sd (ch : Nat) : Nat := if ch = 110 then 0 else if ch = 101 then 1 else if ch = 115 then 2 else if ch = 119 then 3 else 4
def m_sn (ch : Nat) : Int32 := if t_sd ch = 4 then -4 else nI (t_sd ch)
def t_dg (u : Nat → Nat) (m j : Nat) : Bool := decide (j < m ∧ 48 ≤ u j ∧ u j ≤ 57)
def t_at (u : Nat → Nat) (m j ch : Nat) : Bool := decide (j < m ∧ u j = ch)
/-- the length of the item from j on, 0: it's no item -/
def t_ok (u : Nat → Nat) (m j : Nat) : Nat := if t_sd (u j) = 4 then 0 else if !t_dg u m (j + 1) then 0 else if t_at u m (j + 2) 45 then (if t_at u m (j + 3) 59 then 4 else 0) else if !t_at u m (j + 2) 61 then 0 else if !t_dg u m (j + 3) then 0 else if t_at u m (j + 4) 59 then 5 else 0
/-- how many characters of it can stand, where it's none -/
def t_fl (u : Nat → Nat) (m j : Nat) : Nat := if t_sd (u j) = 4 then 0 else if !t_dg u m (j + 1) then 1 else if t_at u m (j + 2) 45 then 3 else if !t_at u m (j + 2) 61 then 2 else if !t_dg u m (j + 3) then 3 else 4
def m_it (u : Nat → Nat) (m j : Nat) : Int32 := if t_ok u m j = 0 then Int32.ofInt (-1 - (t_fl u m j : Int)) else nI (t_ok u m j)
theorem t_fl_le (u : Nat → Nat) (m j : Nat) : t_fl u m j ≤ 4 := by unfold t_fl; split <;> (try split) <;> (try split) <;> (try split) <;> (try split) <;> omega
theorem t_ok_le (u : Nat → Nat) (m j : Nat) : t_ok u m j = 0 ∨ (t_ok u m j = 4 ∧ t_at u m (j + 3) 59 = true) ∨ (t_ok u m j = 5 ∧ t_at u m (j + 4) 59 = true) := by
  unfold t_ok
  split
  · exact Or.inl rfl
  split
  · exact Or.inl rfl
  split
  · split
    · exact Or.inr (Or.inl ⟨rfl, by assumption⟩)
    · exact Or.inl rfl
  split
  · exact Or.inl rfl
  split
  · exact Or.inl rfl
  split
  · exact Or.inr (Or.inr ⟨rfl, by assumption⟩)
  · exact Or.inl rfl
theorem t_ok_in {u : Nat → Nat} {m j : Nat} (h : t_ok u m j ≠ 0) : (t_ok u m j = 4 ∨ t_ok u m j = 5) ∧ j + t_ok u m j ≤ m := by
  rcases t_ok_le u m j with h1 | ⟨h1, h2⟩ | ⟨h1, h2⟩
  · exact absurd h1 h
  · have := (of_decide_eq_true h2).1; exact ⟨Or.inl h1, by omega⟩
  · have := (of_decide_eq_true h2).1; exact ⟨Or.inr h1, by omega⟩
/-- the place of the first fault from j on, or -4 -/
def t_ft (u : Nat → Nat) (m : Nat) : Nat → Nat → Int32
  | 0, _ => -4
  | N + 1, j => if j < m then (if t_ok u m j = 0 then nI (j + t_fl u m j) else t_ft u m N (j + t_ok u m j)) else -4
def m_ft (u : Nat → Nat) (m : Nat) : Int32 := t_ft u m 101 0
/-- an item: its place on the sheet, and its sign (10: none) -/
def t_pl (u : Nat → Nat) (j : Nat) : Nat := 10 * t_sd (u j) + (u (j + 1) - 48)
def t_vl (u : Nat → Nat) (m j : Nat) : Nat := if t_ok u m j = 4 then 10 else u (j + 3) - 48
def t_ls (u : Nat → Nat) (m : Nat) : Nat → Nat → List (Nat × Nat)
  | 0, _ => []
  | N + 1, j => if j < m then (t_pl u j, t_vl u m j) :: t_ls u m N (j + t_ok u m j) else []
def t_ap (s : Nat → Int32) (k : Nat) : List (Nat × Nat) → (Nat → Int32)
  | [] => s
  | it :: l => t_ap (upd s (ix k it.1) (nI it.2)) k l
theorem m_it_neg {u : Nat → Nat} {m j : Nat} (h : t_ok u m j = 0) : m_it u m j = Int32.ofInt (-1 - (t_fl u m j : Int)) := by unfold m_it; rw [if_pos h]
theorem m_it_pos {u : Nat → Nat} {m j : Nat} (h : t_ok u m j ≠ 0) : m_it u m j = nI (t_ok u m j) := by unfold m_it; rw [if_neg h]
theorem m_it_cmp {u : Nat → Nat} {m j : Nat} : (0 ≤ m_it u m j ↔ t_ok u m j ≠ 0) := by
  have hf := t_fl_le u m j
  by_cases h : t_ok u m j = 0
  · rw [m_it_neg h, Int32.le_iff_toInt_le]
    rcases (show t_fl u m j = 0 ∨ t_fl u m j = 1 ∨ t_fl u m j = 2 ∨ t_fl u m j = 3 ∨ t_fl u m j = 4 by omega) with e | e | e | e | e <;> rw [e] <;> simp [h] <;> decide
  · rw [m_it_pos h]
    have := (t_ok_in h).1
    exact ⟨fun _ => h, fun _ => nI_pos' (by omega)⟩
theorem m_it_fault {u : Nat → Nat} {m j : Nat} (h : t_ok u m j = 0) : nI j - m_it u m j - nI 1 = nI (j + t_fl u m j) := by
  have hf := t_fl_le u m j
  rw [m_it_neg h, ← nI_add]
  rcases (show t_fl u m j = 0 ∨ t_fl u m j = 1 ∨ t_fl u m j = 2 ∨ t_fl u m j = 3 ∨ t_fl u m j = 4 by omega) with e | e | e | e | e <;> rw [e]
  · rw [show Int32.ofInt (-1 - ((0 : Nat) : Int)) = -1 by decide, show nI 1 = 1 by decide, show nI 0 = 0 by decide]; grind
  · rw [show Int32.ofInt (-1 - ((1 : Nat) : Int)) = -2 by decide, show nI 1 = 1 by decide]; grind
  · rw [show Int32.ofInt (-1 - ((2 : Nat) : Int)) = -3 by decide, show nI 1 = 1 by decide, show nI 2 = 2 by decide]; grind
  · rw [show Int32.ofInt (-1 - ((3 : Nat) : Int)) = -4 by decide, show nI 1 = 1 by decide, show nI 3 = 3 by decide]; grind
  · rw [show Int32.ofInt (-1 - ((4 : Nat) : Int)) = -5 by decide, show nI 1 = 1 by decide, show nI 4 = 4 by decide]; grind
theorem t_sd_le (ch : Nat) : t_sd ch ≤ 4 := by unfold t_sd; split <;> (try split) <;> (try split) <;> (try split) <;> omega
/-- an item that stands has a side, a digit, and a sign -/
theorem t_ok_sd {u : Nat → Nat} {m j : Nat} (h : t_ok u m j ≠ 0) : t_sd (u j) < 4 ∧ j + 1 < m ∧ 48 ≤ u (j + 1) ∧ u (j + 1) ≤ 57 ∧ (t_ok u m j ≠ 4 → j + 3 < m ∧ 48 ≤ u (j + 3) ∧ u (j + 3) ≤ 57) := by
  have hle := t_sd_le (u j)
  unfold t_ok at h ⊢
  by_cases h1 : t_sd (u j) = 4
  · rw [if_pos h1] at h; exact absurd rfl h
  · rw [if_neg h1] at h ⊢
    by_cases h2 : t_dg u m (j + 1) = true
    · have h2' := of_decide_eq_true h2
      rw [h2] at h ⊢
      refine ⟨by omega, h2'.1, h2'.2.1, h2'.2.2, fun h3 => ?_⟩
      simp only [Bool.not_true, Bool.false_eq_true, if_false] at h h3
      by_cases h4 : t_at u m (j + 2) 45 = true
      · rw [if_pos h4] at h h3
        split at h3
        · exact absurd rfl h3
        · rename_i h5; rw [if_neg h5] at h; exact absurd rfl h
      · rw [if_neg h4] at h h3
        by_cases h5 : t_at u m (j + 2) 61 = true
        · rw [h5] at h
          simp only [Bool.not_true, Bool.false_eq_true, if_false] at h
          by_cases h6 : t_dg u m (j + 3) = true
          · have h6' := of_decide_eq_true h6; exact ⟨h6'.1, h6'.2.1, h6'.2.2⟩
          · have h6' : t_dg u m (j + 3) = false := by simpa using h6
            rw [h6'] at h; exact absurd rfl h
        · have h5' : t_at u m (j + 2) 61 = false := by simpa using h5
          rw [h5'] at h; exact absurd rfl h
    · have h2' : t_dg u m (j + 1) = false := by simpa using h2
      rw [h2'] at h; exact absurd rfl h
def sp_publish (s : Nat → Int32) (c r : Nat) (x : Int32) : SP := if isIn x (c * r) then (if m_eof s c r (tn x) true < m_eof s c r (tn x) false then (-2, none) else (s (ix (tn x) 50), some (upd s (ix (tn x) 51) (s (ix (tn x) 50))))) else (-1, none)
def sp_scale (s : Nat → Int32) (c r : Nat) (x y : Int32) : SP := if isIn x (c * r) && isIn1 y 1000000 then (s (ix (tn x) 52), some (upd s (ix (tn x) 52) y)) else (-1, none)
def sp_read (s : Nat → Int32) (c r : Nat) (u : Nat → Nat) (m : Nat) (x : Int32) : SP := if isIn x (c * r) then (if m_ft u m = -4 then sp_keep (t_ap s (tn x) (t_ls u m 101 0)) c r (tn x) (decide (0 < (t_ls u m 101 0).length)) (nI (t_ls u m 101 0).length) else (-2, none)) else (-1, none)
/-- the lowest sign with a meaning -/
def m_fd (s : Nat → Int32) (k m : Nat) : Nat → Nat → Int32
  | 0, _ => -4
  | N + 1, j => if sv s (ix k (40 + j)) = m then nI j else m_fd s k m N (j + 1)
def m_sf (s : Nat → Int32) (k v m : Nat) : Int32 := if m = 10 then nI 10 else if v ≠ 10 ∧ sv s (ix k (40 + v)) = m then nI v else m_fd s k m 10 0
