/-! The system's cells: sheets, edges, libraries. -/
def xsg (v : Int32) : Int32 := if v = nI 10 then -1 else v
def xpb (v : Int32) : Int32 := if v = -4 then -1 else v
def xm (a : Nat) : Int32 := if a = 10 then -1 else nI a
/-- where a meaning's lowest sign stands, as the system says it -/
def xsf (z : Int32) : Int32 := if z = nI 10 then -1 else if z = -4 then -2 else z
theorem nI_ne_m1 {a : Nat} (h : a < 2 ^ 31) : nI a ≠ -1 := fun e => nI_pos h (by rw [e]; decide)
theorem nI_ne_m4 {a : Nat} (h : a < 2 ^ 31) : nI a ≠ -4 := fun e => nI_pos h (by rw [e]; decide)
theorem xm_t {a : Nat} (h : a = 10) : xm a = -1 := if_pos h
theorem xm_f {a : Nat} (h : a ≠ 10) : xm a = nI a := if_neg h
theorem xm_m1 {a : Nat} (h : a ≤ 10) : xm a = -1 ↔ a = 10 := by
  unfold xm
  split
  · simp_all
  · rename_i e
    exact ⟨fun q => absurd q (nI_ne_m1 (by omega)), fun q => absurd q e⟩
theorem xm_inj {a b : Nat} (ha : a ≤ 10) (hb : b ≤ 10) : xm a = xm b ↔ a = b := by
  refine ⟨fun h => ?_, fun h => by rw [h]⟩
  by_cases h1 : a = 10
  · rw [xm_t h1] at h
    rw [h1, (xm_m1 hb).mp h.symm]
  · by_cases h2 : b = 10
    · rw [xm_t h2] at h
      exact absurd ((xm_m1 ha).mp h) h1
    · rw [xm_f h1, xm_f h2] at h
      exact (nI_eq (by omega) (by omega)).mp h
theorem xsg_nI {v : Nat} (h : v ≤ 10) : xsg (nI v) = xm v := by
  unfold xsg xm
  by_cases e : v = 10
  · rw [if_pos e, if_pos (by rw [e])]
  · rw [if_neg e, if_neg (fun q => e ((nI_eq (by omega) (by omega)).mp q))]
/-- a row of ints, as far as it goes -/
def IA (D : va_G) (h : GH) (a m : Nat) (P : Nat → Int32) : Prop := ∃ f, h a = gI D m f ∧ ∀ i, i < m → f i = P i
theorem IA.kept {D : va_G} {h h' : GH} {a m : Nat} {P : Nat → Int32} (H : IA D h a m P) (e : h' a = h a) : IA D h' a m P := by
  obtain ⟨f, h1, h2⟩ := H
  exact ⟨f, e.trans h1, h2⟩
theorem IA.of {D : va_G} {h : GH} {a m : Nat} {P Q : Nat → Int32} (H : IA D h a m P) (e : ∀ i, i < m → P i = Q i) : IA D h a m Q := by
  obtain ⟨f, h1, h2⟩ := H
  exact ⟨f, h1, fun i hi => (h2 i hi).trans (e i hi)⟩
/-- a sheet: its object, the row of its sides, the legend, four sides -/
def ShAt (D : va_G) (b0 : Nat) (h : GH) (A : Nat → Nat) (u : Nat → Int32) : Prop :=
  h (A 0) = gO 2 [.ref (A 1), .ref (A 2), .int (u 50), .int (xpb (u 51)), .float (f_sc (u 52)), .int (u 52)] ∧
  (∃ F, h (A 1) = gP D 103 4 F ∧ ∀ d, d < 4 → F d = some (A (3 + d))) ∧
  IA D h (A 2) 10 (fun i => u (40 + i)) ∧
  (∀ d, d < 4 → IA D h (A (3 + d)) 10 (fun i => xsg (u (10 * d + i)))) ∧
  ∀ j, j < 7 → b0 ≤ A j
section
variable {D : va_G} {b0 : Nat} {h : GH} {A : Nat → Nat} {u : Nat → Int32}
theorem ShAt.obj (S : ShAt D b0 h A u) : h (A 0) = gO 2 [.ref (A 1), .ref (A 2), .int (u 50), .int (xpb (u 51)), .float (f_sc (u 52)), .int (u 52)] := S.1
theorem ShAt.sides (S : ShAt D b0 h A u) : ∃ F, h (A 1) = gP D 103 4 F ∧ ∀ d, d < 4 → F d = some (A (3 + d)) := S.2.1
theorem ShAt.leg (S : ShAt D b0 h A u) : IA D h (A 2) 10 (fun i => u (40 + i)) := S.2.2.1
theorem ShAt.side (S : ShAt D b0 h A u) : ∀ d, d < 4 → IA D h (A (3 + d)) 10 (fun i => xsg (u (10 * d + i))) := S.2.2.2.1
theorem ShAt.ge (S : ShAt D b0 h A u) : ∀ j, j < 7 → b0 ≤ A j := S.2.2.2.2
end
theorem ShAt.kept {D : va_G} {b0 : Nat} {h h' : GH} {A : Nat → Nat} {u : Nat → Int32} (S : ShAt D b0 h A u) (e : ∀ j, j < 7 → h' (A j) = h (A j)) : ShAt D b0 h' A u := by
  refine ⟨(e 0 (by omega)).trans S.obj, ?_, S.leg.kept (e 2 (by omega)), fun d hd => (S.side d hd).kept (e (3 + d) (by omega)), S.ge⟩
  obtain ⟨F, h1, h2⟩ := S.sides
  exact ⟨F, (e 1 (by omega)).trans h1, h2⟩
theorem ShAt.congr {D : va_G} {b0 : Nat} {h : GH} {A : Nat → Nat} {u u' : Nat → Int32} (S : ShAt D b0 h A u) (e : ∀ j, j < 53 → u' j = u j) : ShAt D b0 h A u' := by
  refine ⟨?_, S.sides, S.leg.of (fun i hi => (e _ (by omega)).symm), fun d hd => (S.side d hd).of (fun i hi => by rw [e _ (by omega)]), S.ge⟩
  rw [e 50 (by omega), e 51 (by omega), e 52 (by omega)]
  exact S.obj
def inj7 (A : Nat → Nat) : Prop := ∀ i j, i < 7 → j < 7 → A i = A j → i = j
/-- a sheet's making: i sides are ready, j are laid -/
def SiL (D : va_G) (h : GH) (n a i j : Nat) (h2 : GH) : Prop := h2 a = gO 2 [.ref n, .ref (n + 1), .int (nI 0), .int (-1), .float FP.fconst1, .int (nI 1000)] ∧ (∃ F, h2 n = gP D 103 4 F ∧ ∀ d, d < j → F d = some (n + 2 + d)) ∧ h2 (n + 1) = gI D 10 (fun _ => 0) ∧ (∀ d, d < i → IA D h2 (n + 2 + d) 10 (fun _ => -1)) ∧ ∀ q, q < n → q ≠ a → h2 q = h q
theorem SiL.put {D : va_G} {h : GH} {n a i j k : Nat} {h2 h3 : GH} (S : SiL D h n a i j h2) (ha : a < n) (hk : i ≤ k) (o : ∀ q, q ≠ n + 2 + k → h3 q = h2 q) : SiL D h n a i j h3 := by
  obtain ⟨s1, ⟨F, s2, s3⟩, s4, s5, s6⟩ := S
  exact ⟨(o _ (by omega)).trans s1, ⟨F, (o _ (by omega)).trans s2, s3⟩, (o _ (by omega)).trans s4, fun d hd => (s5 d hd).kept (o _ (by omega)), fun q q1 q2 => (o q (by omega)).trans (s6 q q1 q2)⟩
abbrev us (s : Nat → Int32) (k : Nat) : Nat → Int32 := fun j => s (ix k j)
theorem xsg_m1 {s : Nat → Int32} (V : MV s) {k j : Nat} (hk : k < 36) (hj : j < 40) : xsg (s (ix k j)) = -1 ↔ s (ix k j) = nI 10 := by
  have v := V.1 k hk j hj
  rw [v.1, xsg_nI v.2, xm_m1 v.2]
  exact ⟨fun e => by rw [e], fun e => (nI_eq (by omega) (by omega)).mp e⟩
def xfd (s : Nat → Int32) (k m : Nat) : Int32 := if m_fd s k m 10 0 = -4 then -1 else m_fd s k m 10 0
theorem x_set1 {s : Nat → Int32} {k v : Nat} : xsf (m_sf s k v 10) = -1 := by
  unfold m_sf xsf
  rw [if_pos rfl, if_pos rfl]
theorem x_set2 {s : Nat → Int32} {k d p m : Nat} (hm : m ≠ 10) (h : m_mean s k d p = m) (hv : sv s (ix k (10 * d + p)) ≤ 10) : xsf (m_sf s k (sv s (ix k (10 * d + p))) m) = xm (sv s (ix k (10 * d + p))) := by
  unfold m_mean at h
  by_cases e : sv s (ix k (10 * d + p)) = 10
  · rw [if_pos e] at h; exact absurd h.symm hm
  · rw [if_neg e] at h
    have e1 : m_sf s k (sv s (ix k (10 * d + p))) m = nI (sv s (ix k (10 * d + p))) := by
      unfold m_sf
      rw [if_neg hm, if_pos ⟨e, h⟩]
    rw [e1, xm_f e]
    unfold xsf
    rw [if_neg (fun q => e ((nI_eq (by omega) (by omega)).mp q)), if_neg (nI_ne_m4 (by omega))]
theorem x_set3 {s : Nat → Int32} {k d p m : Nat} (hm : m ≠ 10) (h : m_mean s k d p ≠ m) : m_sf s k (sv s (ix k (10 * d + p))) m = m_fd s k m 10 0 := by
  unfold m_mean at h
  unfold m_sf
  rw [if_neg hm]
  by_cases e : sv s (ix k (10 * d + p)) = 10
  · rw [if_neg (fun q => q.1 e)]
  · rw [if_neg e] at h
    rw [if_neg (fun q => h q.2)]
theorem x_set4 {s : Nat → Int32} {k m : Nat} (h : xfd s k m = -1) : xsf (m_fd s k m 10 0) = -2 := by
  unfold xfd at h
  rcases m_fd_ex (s := s) (k := k) (m := m) (N := 10) (j := 0) with e | ⟨v, -, hv, e, -⟩
  · rw [e]; decide
  · rw [if_neg (by rw [e]; exact nI_ne_m4 (by omega)), e] at h
    exact absurd h (nI_ne_m1 (by omega))
theorem x_set5 {s : Nat → Int32} {k m : Nat} (h : ¬ xfd s k m = -1) : xsf (m_fd s k m 10 0) = xfd s k m := by
  unfold xfd at h ⊢
  rcases m_fd_ex (s := s) (k := k) (m := m) (N := 10) (j := 0) with e | ⟨v, -, hv, e, -⟩
  · rw [if_pos e] at h; exact absurd rfl h
  · rw [if_neg (by rw [e]; exact nI_ne_m4 (by omega)), e]
    unfold xsf
    rw [if_neg (fun q => absurd ((nI_eq (by omega) (by omega)).mp q) (by omega)), if_neg (nI_ne_m4 (by omega))]
/-- a new sheet, behind its making -/
def SiP (D : va_G) (h : GH) (n a : Nat) (h2 : GH) : Prop := h2 a = gO 2 [.ref n, .ref (n + 1), .int (nI 0), .int (-1), .float FP.fconst1, .int (nI 1000)] ∧ (∃ F, h2 n = gP D 103 4 F ∧ ∀ d, d < 4 → F d = some (n + 2 + d)) ∧ IA D h2 (n + 1) 10 nI ∧ (∀ d, d < 4 → IA D h2 (n + 2 + d) 10 (fun _ => -1)) ∧ ∀ q, q < n → q ≠ a → h2 q = h q
theorem SiP.sh {D : va_G} {b0 : Nat} {h : GH} {n a : Nat} {h2 : GH} (S : SiP D h n a h2) (ha : b0 ≤ a) (hn : b0 ≤ n) : ShAt D b0 h2 (gNew a n) m_df := by
  obtain ⟨s1, ⟨F, s2, s3⟩, s4, s5, s6⟩ := S
  refine ⟨?_, ⟨F, s2, fun d hd => ?_⟩, ?_, fun d hd => ?_, fun j hj => ?_⟩
  · rw [fl_one] at s1
    exact s1
  · rw [s3 d hd]; unfold gNew; rw [if_neg (by omega)]; congr 1; omega
  · exact s4.of (fun i hi => by rw [m_df_b (by omega) (by omega), show 40 + i - 40 = i by omega])
  · have e : gNew a n (3 + d) = n + 2 + d := by unfold gNew; rw [if_neg (by omega)]; omega
    rw [e]
    refine (s5 d hd).of (fun i hi => ?_)
    rw [m_df_a (by omega)]; rfl
  · unfold gNew; split <;> omega
theorem gNew_inj {a n : Nat} (h : a < n) : inj7 (gNew a n) := by
  intro i j hi hj e
  unfold gNew at e
  split at e <;> split at e <;> omega
/-- a sheet's copying: i sides are cloned -/
def CpL (D : va_G) (h : GH) (n : Nat) (u : Nat → Int32) (i : Nat) (h1 : GH) : Prop := h1 n = gO 2 [.ref (n + 1), .ref (n + 1 + 1), .int (nI 0), .int (-1), .float FP.fconst1, .int (nI 1000)] ∧ (∃ F, h1 (n + 1) = gP D 103 4 F ∧ ∀ d, d < i → F d = some (n + 7 + d)) ∧ (∀ d, d < i → IA D h1 (n + 7 + d) 10 (fun x => xsg (u (10 * d + x)))) ∧ ∀ q, q < n → h1 q = h q
/-- where a copy's cells lie -/
def aCp (n : Nat) : Nat → Nat := fun j => if j = 0 then n else if j = 1 then n + 1 else if j = 2 then n + 11 else n + 4 + j
theorem aCp_inj (n : Nat) : inj7 (aCp n) := by
  intro i j hi hj e
  unfold aCp at e
  split at e <;> (try split at e) <;> (try split at e) <;> (try split at e) <;> (try split at e) <;> (try split at e) <;> omega
theorem aCp_in (n : Nat) {j : Nat} (hj : j < 7) : n ≤ aCp n j ∧ aCp n j < n + 12 := by
  unfold aCp
  split
  · omega
  · split
    · omega
    · split <;> omega
theorem xfd_hit {s : Nat → Int32} {k m i : Nat} (hf : m_fd s k m 10 0 = m_fd s k m (10 - i) i) (hi : i < 10) (h : sv s (ix k (40 + i)) = m) : xfd s k m = nI i := by
  have e : m_fd s k m 10 0 = nI i := by
    rw [hf, show 10 - i = (10 - (i + 1)) + 1 by omega]
    show (if _ then _ else _) = _
    rw [if_pos h]
  unfold xfd
  rw [e, if_neg (nI_ne_m4 (by omega))]
def SiQ (D : va_G) (h : GH) (n a x : Nat) (h2 : GH) : Prop := h2 a = gO 2 [.ref n, .ref (n + 1), .int (nI 0), .int (-1), .float FP.fconst1, .int (nI 1000)] ∧ (∃ F, h2 n = gP D 103 4 F ∧ ∀ d, d < 4 → F d = some (n + 2 + d)) ∧ (∃ f, h2 (n + 1) = gI D 10 f ∧ ∀ y, y < x → f y = nI y) ∧ (∀ d, d < 4 → IA D h2 (n + 2 + d) 10 (fun _ => -1)) ∧ ∀ q, q < n → q ≠ a → h2 q = h q
theorem SiL.q {D : va_G} {h : GH} {n a i : Nat} {h2 : GH} (S : SiL D h n a i i h2) (hi : i = 4) : SiQ D h n a 0 h2 := by
  subst hi
  exact ⟨S.1, S.2.1, ⟨_, S.2.2.1, fun y hy => absurd hy (by omega)⟩, S.2.2.2.1, S.2.2.2.2⟩
theorem SiQ.put {D : va_G} {h : GH} {n a x : Nat} {h2 h3 : GH} {f : Nat → Int32} (S : SiQ D h n a x h2) (ha : a < n) (hf : ∀ y, y < x → f y = nI y) (e : h3 (n + 1) = gI D 10 (upd f x (nI x))) (o : ∀ q, q ≠ n + 1 → h3 q = h2 q) : SiQ D h n a (x + 1) h3 := by
  obtain ⟨s1, ⟨F, s2, s3⟩, -, s5, s6⟩ := S
  refine ⟨(o _ (by omega)).trans s1, ⟨F, (o _ (by omega)).trans s2, s3⟩, ⟨_, e, fun y hy => ?_⟩, fun d hd => (s5 d hd).kept (o _ (by omega)), fun q q1 q2 => (o q (by omega)).trans (s6 q q1 q2)⟩
  unfold upd
  split
  · rename_i e; rw [e]
  · exact hf y (by omega)
theorem SiQ.p {D : va_G} {h : GH} {n a x : Nat} {h2 : GH} (S : SiQ D h n a x h2) (hx : ¬ x < 10) : SiP D h n a h2 := by
  obtain ⟨s1, s2, ⟨f, s3, s4⟩, s5, s6⟩ := S
  exact ⟨s1, s2, ⟨f, s3, fun i hi => s4 i (by omega)⟩, s5, s6⟩
theorem SiL.next {D : va_G} {h : GH} {n a i j : Nat} {h2 : GH} {f : Nat → Int32} (S : SiL D h n a i (i + 1) h2) (e : h2 (n + 2 + i) = gI D 10 f) (hf : ∀ x, x < j → f x = -1) (hj : ¬ j < 10) : SiL D h n a (i + 1) (i + 1) h2 := by
  obtain ⟨s1, s2, s4, s5, s6⟩ := S
  refine ⟨s1, s2, s4, fun d hd => ?_, s6⟩
  by_cases hdi : d = i
  · subst hdi; exact ⟨f, e, fun x hx => hf x (by omega)⟩
  · exact s5 d (by omega)
theorem SiL.lay {D : va_G} {h : GH} {n a i : Nat} {h1 h2 h3 : GH} {F : Nat → Option Nat} (S : SiL D h n a i i h1) (ha : a < n) (s3 : ∀ d, d < i → F d = some (n + 2 + d)) (o : ∀ q, q ≠ n + 2 + i → h2 q = h1 q) (e3 : h3 n = gP D 103 4 (va_up F i (some (n + 2 + i)))) (o3 : ∀ q, q ≠ n → h3 q = h2 q) : SiL D h n a i (i + 1) h3 := by
  obtain ⟨s1, -, s4, s5, s6⟩ := S
  refine ⟨(o3 _ (by omega)).trans ((o _ (by omega)).trans s1), ⟨_, e3, fun d hd => ?_⟩, (o3 _ (by omega)).trans ((o _ (by omega)).trans s4), fun d hd => (s5 d hd).kept ((o3 _ (by omega)).trans (o _ (by omega))), fun q q1 q2 => (o3 q (by omega)).trans ((o q (by omega)).trans (s6 q q1 q2))⟩
  by_cases hdi : d = i
  · subst hdi; rw [va_up_self]
  · rw [va_up_ne _ _ hdi]; exact s3 d (by omega)
/-- behind one side's cloning -/
theorem CpL.step {D : va_G} {h : GH} {n i : Nat} {u : Nat → Int32} {h1 h2 h3 : GH} {F : Nat → Option Nat} {f : Nat → Int32} (S : CpL D h n u i h1) (s3 : ∀ d, d < i → F d = some (n + 7 + d)) (e2 : h2 (n + 7 + i) = gI D 10 f) (hf : ∀ x, x < 10 → f x = xsg (u (10 * i + x))) (o : ∀ q, q ≠ n + 7 + i → h2 q = h1 q) (e3 : h3 (n + 1) = gP D 103 4 (va_up F i (some (n + 7 + i)))) (o3 : ∀ q, q ≠ n + 1 → h3 q = h2 q) : CpL D h n u (i + 1) h3 := by
  obtain ⟨s1, -, s5, s6⟩ := S
  refine ⟨(o3 _ (by omega)).trans ((o _ (by omega)).trans s1), ⟨_, e3, fun d hd => ?_⟩, fun d hd => ?_, fun q q1 => (o3 q (by omega)).trans ((o q (by omega)).trans (s6 q q1))⟩
  · by_cases hdi : d = i
    · subst hdi; rw [va_up_self]
    · rw [va_up_ne _ _ hdi]; exact s3 d (by omega)
  · by_cases hdi : d = i
    · subst hdi; exact ⟨f, (o3 _ (by omega)).trans e2, hf⟩
    · exact (s5 d (by omega)).kept ((o3 _ (by omega)).trans (o _ (by omega)))
theorem ShAt.some {D : va_G} {b0 : Nat} {h : GH} {A : Nat → Nat} {u : Nat → Int32} (S : ShAt D b0 h A u) : ∀ j, j < 7 → ∃ x, h (A j) = some x := by
  intro j hj
  match j, hj with
  | 0, _ => exact ⟨_, S.obj⟩
  | 1, _ => obtain ⟨F, e, -⟩ := S.sides; exact ⟨_, e⟩
  | 2, _ => obtain ⟨F, e, -⟩ := S.leg; exact ⟨_, e⟩
  | 3, _ => obtain ⟨F, e, -⟩ := S.side 0 (by omega); exact ⟨_, e⟩
  | 4, _ => obtain ⟨F, e, -⟩ := S.side 1 (by omega); exact ⟨_, e⟩
  | 5, _ => obtain ⟨F, e, -⟩ := S.side 2 (by omega); exact ⟨_, e⟩
  | 6, _ => obtain ⟨F, e, -⟩ := S.side 3 (by omega); exact ⟨_, e⟩
theorem ShAt.lt {D : va_G} {b0 : Nat} {h : GH} {A : Nat → Nat} {u : Nat → Int32} (S : ShAt D b0 h A u) {n : Nat} (hno : ∀ a, n ≤ a → h a = none) : ∀ j, j < 7 → A j < n := by
  intro j hj
  obtain ⟨x, e⟩ := S.some j hj
  rcases Nat.lt_or_ge (A j) n with hh | hh
  · exact hh
  · rw [hno _ hh] at e; cases e
theorem CpL.sh {D : va_G} {b0 : Nat} {h : GH} {n : Nat} {u : Nat → Int32} {h1 h44 hf : GH} {lf : Nat → Int32} (S : CpL D h n u 4 h1) (hb : b0 ≤ n) (l2 : ∀ i, i < 10 → lf i = u (40 + i)) (e44 : h44 (n + 11) = gI D 10 lf) (o44 : ∀ q, q ≠ n + 11 → h44 q = h1 q) (e : hf n = gO 2 [.ref (n + 1), .ref (n + 11), .int (u 50), .int (xpb (u 51)), .float (f_sc (u 52)), .int (u 52)]) (o : ∀ q, q ≠ n → hf q = h44 q) : ShAt D b0 hf (aCp n) u ∧ ∀ q, q < n → hf q = h q := by
  obtain ⟨s1, ⟨F, s2, s3⟩, s5, s6⟩ := S
  refine ⟨⟨e, ⟨F, (o _ (by show n + 1 ≠ n; omega)).trans ((o44 _ (by show n + 1 ≠ n + 11; omega)).trans s2), fun d hd => ?_⟩, ⟨lf, (o _ (by show n + 11 ≠ n; omega)).trans e44, l2⟩, fun d hd => ?_, fun j hj => Nat.le_trans hb (aCp_in n hj).1⟩, fun q hq => (o q (by omega)).trans ((o44 q (by omega)).trans (s6 q hq))⟩
  · have a : aCp n (3 + d) = n + 7 + d := by unfold aCp; rw [if_neg (by omega), if_neg (by omega), if_neg (by omega)]; omega
    rw [s3 d hd, a]
  · have a : aCp n (3 + d) = n + 7 + d := by unfold aCp; rw [if_neg (by omega), if_neg (by omega), if_neg (by omega)]; omega
    rw [a]
    exact (s5 d hd).kept ((o _ (by omega)).trans (o44 _ (by omega)))
