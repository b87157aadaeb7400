/-! The reference's cells: the object and its five rows of ints, over any other heap h0. -/
def mh (h0 : GH) (D : va_G) (g : Nat → Nat) (s w a t b : Nat → Int32) (st ty : Int32) : GH := fun q =>
  if q = g 0 then gO 4 [.ref (g 1), .ref (g 2), .ref (g 3), .int st, .ref (g 4), .int ty, .ref (g 5)] else
  if q = g 1 then gI D 1972 s else if q = g 2 then gI D 7888 w else if q = g 3 then gI D 1972 a else
  if q = g 4 then gI D 100 t else if q = g 5 then gI D 36 b else h0 q
/-- their addresses: apart, and made by the law -/
def gM (b0 : Nat) (g : Nat → Nat) : Prop := (g 0 ≠ g 1 ∧ g 0 ≠ g 2 ∧ g 0 ≠ g 3 ∧ g 0 ≠ g 4 ∧ g 0 ≠ g 5) ∧ (g 1 ≠ g 2 ∧ g 1 ≠ g 3 ∧ g 1 ≠ g 4 ∧ g 1 ≠ g 5) ∧ (g 2 ≠ g 3 ∧ g 2 ≠ g 4 ∧ g 2 ≠ g 5) ∧ (g 3 ≠ g 4 ∧ g 3 ≠ g 5) ∧ g 4 ≠ g 5 ∧
  b0 ≤ g 0 ∧ b0 ≤ g 1 ∧ b0 ≤ g 2 ∧ b0 ≤ g 3 ∧ b0 ≤ g 4 ∧ b0 ≤ g 5
section MW
variable {h0 : GH} {D : va_G} {g : Nat → Nat} {s w a t b s' : Nat → Int32} {st ty st' : Int32} {b0 : Nat}
theorem mh_0 (_ : gM b0 g) : mh h0 D g s w a t b st ty (g 0) = gO 4 [.ref (g 1), .ref (g 2), .ref (g 3), .int st, .ref (g 4), .int ty, .ref (g 5)] := by simp [mh]
theorem mh_1 (G : gM b0 g) : mh h0 D g s w a t b st ty (g 1) = gI D 1972 s := by
  obtain ⟨⟨a1, a2, a3, a4, a5⟩, ⟨b2, b3, b4, b5⟩, ⟨c3, c4, c5⟩, ⟨d4, d5⟩, e5, -⟩ := G
  simp [mh, Ne.symm a1]
theorem mh_2 (G : gM b0 g) : mh h0 D g s w a t b st ty (g 2) = gI D 7888 w := by
  obtain ⟨⟨a1, a2, a3, a4, a5⟩, ⟨b2, b3, b4, b5⟩, ⟨c3, c4, c5⟩, ⟨d4, d5⟩, e5, -⟩ := G
  simp [mh, Ne.symm a2, Ne.symm b2]
theorem mh_3 (G : gM b0 g) : mh h0 D g s w a t b st ty (g 3) = gI D 1972 a := by
  obtain ⟨⟨a1, a2, a3, a4, a5⟩, ⟨b2, b3, b4, b5⟩, ⟨c3, c4, c5⟩, ⟨d4, d5⟩, e5, -⟩ := G
  simp [mh, Ne.symm a3, Ne.symm b3, Ne.symm c3]
theorem mh_4 (G : gM b0 g) : mh h0 D g s w a t b st ty (g 4) = gI D 100 t := by
  obtain ⟨⟨a1, a2, a3, a4, a5⟩, ⟨b2, b3, b4, b5⟩, ⟨c3, c4, c5⟩, ⟨d4, d5⟩, e5, -⟩ := G
  simp [mh, Ne.symm a4, Ne.symm b4, Ne.symm c4, Ne.symm d4]
theorem mh_5 (G : gM b0 g) : mh h0 D g s w a t b st ty (g 5) = gI D 36 b := by
  obtain ⟨⟨a1, a2, a3, a4, a5⟩, ⟨b2, b3, b4, b5⟩, ⟨c3, c4, c5⟩, ⟨d4, d5⟩, e5, -⟩ := G
  simp [mh, Ne.symm a5, Ne.symm b5, Ne.symm c5, Ne.symm d5, Ne.symm e5]
theorem mh_u0 (_ : gM b0 g) : va_up (mh h0 D g s w a t b st ty) (g 0) (gO 4 [.ref (g 1), .ref (g 2), .ref (g 3), .int st', .ref (g 4), .int ty, .ref (g 5)]) = mh h0 D g s w a t b st' ty := by
  funext q
  by_cases hq : q = g 0
  · subst hq; simp [mh, va_up]
  · simp [mh, va_up, hq]
theorem mh_t0 (_ : gM b0 g) : va_up (mh h0 D g s w a t b st ty) (g 0) (gO 4 [.ref (g 1), .ref (g 2), .ref (g 3), .int st, .ref (g 4), .int st', .ref (g 5)]) = mh h0 D g s w a t b st st' := by
  funext q
  by_cases hq : q = g 0
  · subst hq; simp [mh, va_up]
  · simp [mh, va_up, hq]
theorem mh_u1 (G : gM b0 g) : va_up (mh h0 D g s w a t b st ty) (g 1) (gI D 1972 s') = mh h0 D g s' w a t b st ty := by
  funext q
  by_cases hq : q = g 1
  · subst hq; rw [va_up_self, mh_1 G]
  · simp [mh, va_up, hq]
theorem mh_u2 (G : gM b0 g) : va_up (mh h0 D g s w a t b st ty) (g 2) (gI D 7888 s') = mh h0 D g s s' a t b st ty := by
  funext q
  by_cases hq : q = g 2
  · subst hq; rw [va_up_self, mh_2 G]
  · simp [mh, va_up, hq]
theorem mh_u3 (G : gM b0 g) : va_up (mh h0 D g s w a t b st ty) (g 3) (gI D 1972 s') = mh h0 D g s w s' t b st ty := by
  funext q
  by_cases hq : q = g 3
  · subst hq; rw [va_up_self, mh_3 G]
  · simp [mh, va_up, hq]
theorem mh_u4 (G : gM b0 g) : va_up (mh h0 D g s w a t b st ty) (g 4) (gI D 100 s') = mh h0 D g s w a s' b st ty := by
  funext q
  by_cases hq : q = g 4
  · subst hq; rw [va_up_self, mh_4 G]
  · simp [mh, va_up, hq]
theorem mh_u5 (G : gM b0 g) : va_up (mh h0 D g s w a t b st ty) (g 5) (gI D 36 s') = mh h0 D g s w a t s' st ty := by
  funext q
  by_cases hq : q = g 5
  · subst hq; rw [va_up_self, mh_5 G]
  · simp [mh, va_up, hq]
end MW
theorem gM.ge0 {b0 : Nat} {g : Nat → Nat} (G : gM b0 g) : b0 ≤ g 0 := G.2.2.2.2.2.1
theorem gM.ge1 {b0 : Nat} {g : Nat → Nat} (G : gM b0 g) : b0 ≤ g 1 := G.2.2.2.2.2.2.1
theorem gM.ge2 {b0 : Nat} {g : Nat → Nat} (G : gM b0 g) : b0 ≤ g 2 := G.2.2.2.2.2.2.2.1
theorem gM.ge3 {b0 : Nat} {g : Nat → Nat} (G : gM b0 g) : b0 ≤ g 3 := G.2.2.2.2.2.2.2.2.1
theorem gM.ge4 {b0 : Nat} {g : Nat → Nat} (G : gM b0 g) : b0 ≤ g 4 := G.2.2.2.2.2.2.2.2.2.1
theorem gM.ge5 {b0 : Nat} {g : Nat → Nat} (G : gM b0 g) : b0 ≤ g 5 := G.2.2.2.2.2.2.2.2.2.2
theorem bI_t {b : Bool} (h : b = true) : nI 1 = bI b := by rw [h]; decide
theorem bI_f {b : Bool} (h : b = false) : nI 0 = bI b := by rw [h]; decide
