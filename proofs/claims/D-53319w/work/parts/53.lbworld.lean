/-! A library: its cells by one numbering. 0 the library, 1 the list of sheets, 2 of edges, 3 the settings, 4 and 5 the lists' rows, from 6 on the edges, from 66 on the sheets by seven. -/
def dm (ns ne i : Nat) : Prop := i < 6 ∨ (6 ≤ i ∧ i < 6 + ne) ∨ (66 ≤ i ∧ i < 66 + 7 * ns)
abbrev aS (ad : Nat → Nat) (k : Nat) : Nat → Nat := fun j => ad (66 + 7 * k + j)
def LbG (D : va_G) (b0 : Nat) (h : GH) (Z : Nat → Prop) (ad : Nat → Nat) (s : Nat → Int32) (c r ns ne : Nat) : Prop :=
  h (ad 0) = gO 1 [.int (nI c), .int (nI r), .ref (ad 1), .ref (ad 2), .ref (ad 3)] ∧
  (∃ cap m F, LiAt D b0 h (ad 1) (ad 4) cap ns m F ∧ ∀ k, k < ns → F k = some (aS ad k 0)) ∧
  (∃ cap m F, LiAt D b0 h (ad 2) (ad 5) cap ne m F ∧ ∀ e, e < ne → F e = some (ad (6 + e))) ∧
  IA D h (ad 3) 2 (fun i => s (2 + i)) ∧
  (∀ k, k < ns → ShAt D b0 h (aS ad k) (us s k)) ∧
  (∀ e, e < ne → h (ad (6 + e)) = gO 3 [.int (nI (m_fst c r e)), .int (nI (m_snd c r e)), .int (nI (m_sd c r e)), .int (s (4 + e))]) ∧
  (∀ i j, dm ns ne i → dm ns ne j → ad i = ad j → i = j ∨ ad i = D.1 201) ∧
  (∀ i, dm ns ne i → Z (ad i)) ∧
  (∀ i, dm ns ne i → i ≠ 4 → i ≠ 5 → b0 ≤ ad i) ∧ ∀ x : Nat, b0 ≤ x → x ≠ D.1 201
abbrev LbAt (D : va_G) (b0 : Nat) (h : GH) (Z : Nat → Prop) (ad : Nat → Nat) (s : Nat → Int32) (c r : Nat) : Prop := LbG D b0 h Z ad s c r (c * r) (m_ed c r)
section LB
variable {D : va_G} {b0 : Nat} {h h' : GH} {Z Z' : Nat → Prop} {ad : Nat → Nat} {s s' : Nat → Int32} {c r ns ne : Nat}
theorem LbG.obj (B : LbG D b0 h Z ad s c r ns ne) : h (ad 0) = gO 1 [.int (nI c), .int (nI r), .ref (ad 1), .ref (ad 2), .ref (ad 3)] := B.1
theorem LbG.l1 (B : LbG D b0 h Z ad s c r ns ne) : ∃ cap m F, LiAt D b0 h (ad 1) (ad 4) cap ns m F ∧ ∀ k, k < ns → F k = some (aS ad k 0) := B.2.1
theorem LbG.l2 (B : LbG D b0 h Z ad s c r ns ne) : ∃ cap m F, LiAt D b0 h (ad 2) (ad 5) cap ne m F ∧ ∀ e, e < ne → F e = some (ad (6 + e)) := B.2.2.1
theorem LbG.st (B : LbG D b0 h Z ad s c r ns ne) : IA D h (ad 3) 2 (fun i => s (2 + i)) := B.2.2.2.1
theorem LbG.sh (B : LbG D b0 h Z ad s c r ns ne) : ∀ k, k < ns → ShAt D b0 h (aS ad k) (us s k) := B.2.2.2.2.1
theorem LbG.ed (B : LbG D b0 h Z ad s c r ns ne) : ∀ e, e < ne → h (ad (6 + e)) = gO 3 [.int (nI (m_fst c r e)), .int (nI (m_snd c r e)), .int (nI (m_sd c r e)), .int (s (4 + e))] := B.2.2.2.2.2.1
theorem LbG.inj (B : LbG D b0 h Z ad s c r ns ne) : ∀ i j, dm ns ne i → dm ns ne j → ad i = ad j → i = j ∨ ad i = D.1 201 := B.2.2.2.2.2.2.1
theorem LbG.z (B : LbG D b0 h Z ad s c r ns ne) : ∀ i, dm ns ne i → Z (ad i) := B.2.2.2.2.2.2.2.1
theorem LbG.ge (B : LbG D b0 h Z ad s c r ns ne) : ∀ i, dm ns ne i → i ≠ 4 → i ≠ 5 → b0 ≤ ad i := B.2.2.2.2.2.2.2.2.1
theorem LbG.hD (B : LbG D b0 h Z ad s c r ns ne) : ∀ x : Nat, b0 ≤ x → x ≠ D.1 201 := B.2.2.2.2.2.2.2.2.2
theorem LbG.ne_ (B : LbG D b0 h Z ad s c r ns ne) {i j : Nat} (hi : dm ns ne i) (hj : dm ns ne j) (h4 : i ≠ 4) (h5 : i ≠ 5) (hij : i ≠ j) : ad i ≠ ad j := by
  intro e
  rcases B.inj i j hi hj e with q | q
  · exact hij q
  · exact absurd q (B.hD _ (B.ge i hi h4 h5))
theorem LbG.has_ (B : LbG D b0 h Z ad s c r ns ne) {i : Nat} (hi : dm ns ne i) : ∃ x, h (ad i) = some x := by
  rcases hi with hi | ⟨h1, h2⟩ | ⟨h1, h2⟩
  · match i, hi with
    | 0, _ => exact ⟨_, B.obj⟩
    | 1, _ => obtain ⟨_, _, _, L, -⟩ := B.l1; exact ⟨_, L.1⟩
    | 2, _ => obtain ⟨_, _, _, L, -⟩ := B.l2; exact ⟨_, L.1⟩
    | 3, _ => obtain ⟨_, e, -⟩ := B.st; exact ⟨_, e⟩
    | 4, _ => obtain ⟨_, _, _, L, -⟩ := B.l1; exact ⟨_, L.2.1⟩
    | 5, _ => obtain ⟨_, _, _, L, -⟩ := B.l2; exact ⟨_, L.2.1⟩
  · have := B.ed (i - 6) (by omega)
    rw [show 6 + (i - 6) = i by omega] at this
    exact ⟨_, this⟩
  · have S := (B.sh ((i - 66) / 7) (by omega)).some ((i - 66) % 7) (by omega)
    rwa [show aS ad ((i - 66) / 7) ((i - 66) % 7) = ad i by show ad (66 + 7 * ((i - 66) / 7) + (i - 66) % 7) = _; congr 1; omega] at S
theorem LbG.lt (B : LbG D b0 h Z ad s c r ns ne) {n : Nat} (hno : ∀ a, n ≤ a → h a = none) {i : Nat} (hi : dm ns ne i) : ad i < n := by
  obtain ⟨x, e⟩ := B.has_ hi
  rcases Nat.lt_or_ge (ad i) n with hh | hh
  · exact hh
  · rw [hno _ hh] at e; cases e
theorem LbG.kept (B : LbG D b0 h Z ad s c r ns ne) (o : ∀ i, dm ns ne i → h' (ad i) = h (ad i)) : LbG D b0 h' Z ad s c r ns ne := by
  obtain ⟨b1, ⟨c1, m1, F1, L1, g1⟩, ⟨c2, m2, F2, L2, g2⟩, b4, b5, b6, b7⟩ := B
  refine ⟨(o 0 (Or.inl (by omega))).trans b1, ⟨c1, m1, F1, L1.kept (o 1 (Or.inl (by omega))) (o 4 (Or.inl (by omega))), g1⟩, ⟨c2, m2, F2, L2.kept (o 2 (Or.inl (by omega))) (o 5 (Or.inl (by omega))), g2⟩, b4.kept (o 3 (Or.inl (by omega))), fun k hk => (b5 k hk).kept (fun j hj => o _ (Or.inr (Or.inr (by omega)))), fun e he => (o _ (Or.inr (Or.inl (by omega)))).trans (b6 e he), b7⟩
/-- what isn't written in the library's land, stays -/
theorem LbG.land (B : LbG D b0 h Z ad s c r ns ne) (o : ∀ q, Z q → h' q = h q) : LbG D b0 h' Z ad s c r ns ne := B.kept (fun i hi => o _ (B.z i hi))
theorem LbG.wide (B : LbG D b0 h Z ad s c r ns ne) (w : ∀ i, dm ns ne i → Z' (ad i)) : LbG D b0 h Z' ad s c r ns ne :=
  ⟨B.obj, B.l1, B.l2, B.st, B.sh, B.ed, B.inj, w, B.ge, B.hD⟩
theorem LbG.congr (B : LbG D b0 h Z ad s c r ns ne) (h2 : s' 2 = s 2) (h3 : s' 3 = s 3) (he : ∀ e, e < ne → s' (4 + e) = s (4 + e)) (hs : ∀ k, k < ns → ∀ j, j < 53 → s' (ix k j) = s (ix k j)) : LbG D b0 h Z ad s' c r ns ne := by
  refine ⟨B.obj, B.l1, B.l2, B.st.of (fun i hi => ?_), fun k hk => (B.sh k hk).congr (hs k hk), fun e h9 => by rw [he e h9]; exact B.ed e h9, B.inj, B.z, B.ge, B.hD⟩
  match i, hi with
  | 0, _ => exact h2.symm
  | 1, _ => exact h3.symm
/-- one edge's mark is written -/
theorem LbG.mark (B : LbG D b0 h Z ad s c r ns ne) {e0 : Nat} (h0 : e0 < ne) (h60 : ne ≤ 60) {v : Int32} (e : h' (ad (6 + e0)) = gO 3 [.int (nI (m_fst c r e0)), .int (nI (m_snd c r e0)), .int (nI (m_sd c r e0)), .int v]) (o : ∀ q, q ≠ ad (6 + e0) → h' q = h q) : LbG D b0 h' Z ad (upd s (4 + e0) v) c r ns ne := by
  have d0 : dm ns ne (6 + e0) := Or.inr (Or.inl (by omega))
  have oo : ∀ i, dm ns ne i → i ≠ 6 + e0 → h' (ad i) = h (ad i) := fun i hi hne => o _ (Ne.symm (B.ne_ d0 hi (by omega) (by omega) (Ne.symm hne)))
  have uo : ∀ x, x ≠ 4 + e0 → upd s (4 + e0) v x = s x := fun x hx => upd_out hx
  obtain ⟨b1, ⟨c1, m1, F1, L1, g1⟩, ⟨c2, m2, F2, L2, g2⟩, b4, b5, b6, b7⟩ := B
  refine ⟨(oo 0 (Or.inl (by omega)) (by omega)).trans b1, ⟨c1, m1, F1, L1.kept (oo 1 (Or.inl (by omega)) (by omega)) (oo 4 (Or.inl (by omega)) (by omega)), g1⟩, ⟨c2, m2, F2, L2.kept (oo 2 (Or.inl (by omega)) (by omega)) (oo 5 (Or.inl (by omega)) (by omega)), g2⟩, (b4.kept (oo 3 (Or.inl (by omega)) (by omega))).of (fun i hi => (uo _ (by omega)).symm), fun k hk => ((b5 k hk).kept (fun j hj => oo _ (Or.inr (Or.inr (by omega))) (by omega))).congr (fun j hj => uo _ (by show 64 + 53 * k + j ≠ _; omega)), fun e9 he => ?_, b7⟩
  by_cases q : e9 = e0
  · subst q; rw [upd_in]; exact e
  · rw [uo _ (by omega)]
    exact (oo _ (Or.inr (Or.inl (by omega))) (by omega)).trans (b6 e9 he)
/-- one sheet is written: its cells may move to new ones -/
theorem LbG.sheet (B : LbG D b0 h Z ad s c r ns ne) {k0 : Nat} (h0 : k0 < ns) (h36 : ns ≤ 36) (h60 : ne ≤ 60) {ad' : Nat → Nat} (hs : ShAt D b0 h' (aS ad' k0) (us s' k0)) (hA : ∀ i, (i < 66 + 7 * k0 + 1 ∨ 66 + 7 * k0 + 7 ≤ i) → ad' i = ad i)
    (hN : ∀ j, j < 7 → ad' (66 + 7 * k0 + j) = ad (66 + 7 * k0 + j) ∨ h (ad' (66 + 7 * k0 + j)) = none) (hI : inj7 (aS ad' k0)) (hZ : ∀ j, j < 7 → Z (ad' (66 + 7 * k0 + j))) (o : ∀ q, (∀ j, j < 7 → q ≠ ad (66 + 7 * k0 + j)) → h q ≠ none → h' q = h q) (hu : ∀ x, (x < 64 + 53 * k0 ∨ 64 + 53 * k0 + 53 ≤ x) → s' x = s x) : LbG D b0 h' Z ad' s' c r ns ne := by
  have dk : ∀ j, j < 7 → dm ns ne (66 + 7 * k0 + j) := fun j hj => Or.inr (Or.inr (by omega))
  have far : ∀ i, dm ns ne i → (i < 66 + 7 * k0 ∨ 66 + 7 * k0 + 7 ≤ i) → h' (ad i) = h (ad i) ∧ ad' i = ad i := by
    intro i hi hf
    refine ⟨o _ (fun j hj => Ne.symm (B.ne_ (dk j hj) hi (by omega) (by omega) (by omega))) ?_, hA i (by omega)⟩
    obtain ⟨x, e⟩ := B.has_ hi
    rw [e]; exact fun q => by cases q
  have f1 : ∀ i, i < 6 → h' (ad i) = h (ad i) ∧ ad' i = ad i := fun i hi => far i (Or.inl hi) (Or.inl (by omega))
  have inj' := B.inj
  have B0 := B
  obtain ⟨b1, ⟨c1, m1, F1, L1, g1⟩, ⟨c2, m2, F2, L2, g2⟩, b4, b5, b6, b7, b8, b9, b10⟩ := B
  refine ⟨?_, ⟨c1, m1, F1, ?_, fun k hk => ?_⟩, ⟨c2, m2, F2, ?_, fun e he => ?_⟩, ?_, fun k hk => ?_, fun e he => ?_, fun i j hi hj e => ?_, fun i hi => ?_, fun i hi h4 h5 => ?_, b10⟩
  · rw [(f1 0 (by omega)).2, (f1 1 (by omega)).2, (f1 2 (by omega)).2, (f1 3 (by omega)).2]; exact (f1 0 (by omega)).1.trans b1
  · rw [(f1 1 (by omega)).2, (f1 4 (by omega)).2]; exact L1.kept (f1 1 (by omega)).1 (f1 4 (by omega)).1
  · rw [g1 k hk]
    show some (ad (66 + 7 * k + 0)) = some (ad' (66 + 7 * k + 0))
    rw [hA _ (by omega)]
  · rw [(f1 2 (by omega)).2, (f1 5 (by omega)).2]; exact L2.kept (f1 2 (by omega)).1 (f1 5 (by omega)).1
  · rw [g2 e he, hA _ (by omega)]
  · rw [(f1 3 (by omega)).2]
    exact (b4.kept (f1 3 (by omega)).1).of (fun i hi => (hu _ (by omega)).symm)
  · by_cases q : k = k0
    · subst q; exact hs
    · have ee : aS ad' k = aS ad k ∨ True := Or.inr trivial
      have e7 : ∀ j, j < 7 → ad' (66 + 7 * k + j) = ad (66 + 7 * k + j) := fun j hj => hA _ (by omega)
      have S0 := ((b5 k hk).kept (h' := h') (fun j hj => (far _ (Or.inr (Or.inr (by omega))) (by omega)).1)).congr (u' := us s' k) (fun j hj => hu _ (by show 64 + 53 * k + j < _ ∨ _ ≤ 64 + 53 * k + j; omega))
      obtain ⟨t1, ⟨F, t2, t3⟩, t4, t5, t6⟩ := S0
      refine ⟨?_, ⟨F, ?_, fun d hd => ?_⟩, ?_, fun d hd => ?_, fun j hj => ?_⟩
      · show h' (ad' _) = gO 2 [.ref (ad' _), .ref (ad' _), _, _, _, _]
        rw [e7 0 (by omega), e7 1 (by omega), e7 2 (by omega)]; exact t1
      · show h' (ad' _) = _
        rw [e7 1 (by omega)]; exact t2
      · rw [t3 d hd]; show some (ad (66 + 7 * k + (3 + d))) = some (ad' (66 + 7 * k + (3 + d))); rw [e7 (3 + d) (by omega)]
      · show IA D h' (ad' _) _ _
        rw [e7 2 (by omega)]; exact t4
      · show IA D h' (ad' (66 + 7 * k + (3 + d))) _ _
        rw [e7 (3 + d) (by omega)]; exact t5 d hd
      · show b0 ≤ ad' (66 + 7 * k + j)
        rw [e7 j hj]; exact t6 j hj
  · rw [hA _ (by omega), hu _ (by omega)]
    exact (far _ (Or.inr (Or.inl (by omega))) (by omega)).1.trans (b6 e he)
  · by_cases qi : 66 + 7 * k0 ≤ i ∧ i < 66 + 7 * k0 + 7
    · by_cases qj : 66 + 7 * k0 ≤ j ∧ j < 66 + 7 * k0 + 7
      · have := hI (i - (66 + 7 * k0)) (j - (66 + 7 * k0)) (by omega) (by omega) (by show ad' _ = ad' _; rw [show 66 + 7 * k0 + (i - (66 + 7 * k0)) = i by omega, show 66 + 7 * k0 + (j - (66 + 7 * k0)) = j by omega]; exact e)
        exact Or.inl (by omega)
      · have hj' := hA j (by omega)
        have hN' := hN (i - (66 + 7 * k0)) (by omega)
        rw [show 66 + 7 * k0 + (i - (66 + 7 * k0)) = i by omega] at hN'
        rcases hN' with hn | hn
        · rw [hn, hj'] at e; rw [hn]; exact inj' i j hi hj e
        · rw [e, hj'] at hn
          obtain ⟨x, ex⟩ := B0.has_ hj
          rw [ex] at hn; cases hn
    · have hi' := hA i (by omega)
      by_cases qj : 66 + 7 * k0 ≤ j ∧ j < 66 + 7 * k0 + 7
      · have hN' := hN (j - (66 + 7 * k0)) (by omega)
        rw [show 66 + 7 * k0 + (j - (66 + 7 * k0)) = j by omega] at hN'
        rcases hN' with hn | hn
        · rw [hn, hi'] at e; rw [hi']; exact inj' i j hi hj e
        · rw [← e, hi'] at hn
          obtain ⟨x, ex⟩ := B0.has_ hi
          rw [ex] at hn; cases hn
      · rw [hi', hA j (by omega)] at e; rw [hi']; exact inj' i j hi hj e
  · by_cases qi : 66 + 7 * k0 ≤ i ∧ i < 66 + 7 * k0 + 7
    · have := hZ (i - (66 + 7 * k0)) (by omega)
      rwa [show 66 + 7 * k0 + (i - (66 + 7 * k0)) = i by omega] at this
    · rw [hA i (by omega)]; exact b8 i hi
  · by_cases qi : 66 + 7 * k0 ≤ i ∧ i < 66 + 7 * k0 + 7
    · have := hs.ge (i - (66 + 7 * k0)) (by omega)
      rwa [show aS ad' k0 (i - (66 + 7 * k0)) = ad' i by show ad' _ = _; congr 1; omega] at this
    · rw [hA i (by omega)]; exact b9 i hi h4 h5
end LB
