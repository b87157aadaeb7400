/-! An edge, a sheet is added to a library. -/
theorem dm_s {ns ne i : Nat} (h : dm ns (ne + 1) i) (h2 : i ≠ 6 + ne) : dm ns ne i := by
  rcases h with h | h | h
  · exact Or.inl h
  · exact Or.inr (Or.inl (by omega))
  · exact Or.inr (Or.inr h)
theorem dm_t {ns ne i : Nat} (h : dm (ns + 1) ne i) (h2 : ¬ (66 + 7 * ns ≤ i ∧ i < 66 + 7 * ns + 7)) : dm ns ne i := by
  rcases h with h | h | h
  · exact Or.inl h
  · exact Or.inr (Or.inl h)
  · exact Or.inr (Or.inr (by omega))
section LA
variable {D : va_G} {b0 : Nat} {h h1 h' : GH} {Z : Nat → Prop} {ad : Nat → Nat} {s : Nat → Int32} {c r ns ne v n1 n' cap : Nat} {m : Int32} {F : Nat → Option Nat}
theorem LbG.addE (B : LbG D b0 h Z ad s c r ns ne) (h60 : ne + 1 ≤ 60) (G : ∀ e, e < ne → F e = some (ad (6 + e))) (hv : h v = none) (hn1 : h1 n1 = none) (bv : b0 ≤ v) (zv : Z v) (bn : b0 ≤ n1) (zn : Z n1)
    (e1 : h1 v = gO 3 [.int (nI (m_fst c r ne)), .int (nI (m_snd c r ne)), .int (nI (m_sd c r ne)), .int (s (4 + ne))]) (o1 : ∀ q, q ≠ v → h1 q = h q) (P : AddP D b0 h1 n1 (ad 2) (ad 5) cap ne m F v h' n') :
    ∃ ad', LbG D b0 h' Z ad' s c r ns (ne + 1) ∧ (∀ i, i ≠ 5 → i ≠ 6 + ne → ad' i = ad i) ∧ (ad' 5 = ad 5 ∧ n' = n1 ∧ b0 ≤ ad 5 ∨ ad' 5 = n1 ∧ n' = n1 + 1) ∧ ∀ q, q ≠ v → q ≠ ad 2 → q ≠ ad' 5 → h' q = h q := by
  obtain ⟨arr', cap', F', x1, x2, x3, x4, x5⟩ := P
  have ba : b0 ≤ arr' := by
    rcases x1.2.2.2.2 with ⟨q, -⟩ | ⟨-, q⟩
    · have := x1.2.2.1; omega
    · exact q
  have nv : ∀ i, dm ns ne i → ad i ≠ v := fun i hi e => by obtain ⟨x, ex⟩ := B.has_ hi; rw [e, hv] at ex; cases ex
  have na : ∀ i, dm ns ne i → i ≠ 5 → ad i ≠ arr' := by
    intro i hi h5 e
    rcases x4 with ⟨q, -, -⟩ | ⟨q, -, -⟩
    · rw [q] at e
      rcases B.inj i 5 hi (Or.inl (by omega)) e with z | z
      · exact h5 z
      · exact B.hD _ ba (by rw [q, ← e]; exact z)
    · obtain ⟨x, ex⟩ := B.has_ hi
      rw [← o1 _ (nv i hi), e, q, hn1] at ex; cases ex
  have va : v ≠ arr' := by
    intro e
    rcases x4 with ⟨q, -, -⟩ | ⟨q, -, -⟩
    · exact nv 5 (Or.inl (by omega)) (by rw [e, q])
    · rw [e, q, hn1] at e1; cases e1
  have kp : ∀ i, dm ns ne i → i ≠ 2 → i ≠ 5 → h' (ad i) = h (ad i) := fun i hi h2 h5 => (x5 _ (Ne.symm (B.ne_ (Or.inl (by omega)) hi (by omega) (by omega) (Ne.symm h2))) (na i hi h5)).trans (o1 _ (nv i hi))
  obtain ⟨ad', hd'⟩ : ∃ ad' : Nat → Nat, ad' = fun i => if i = 6 + ne then v else if i = 5 then arr' else ad i := ⟨_, rfl⟩
  have dN : ad' (6 + ne) = v := by rw [hd']; show (if _ then _ else _) = _; rw [if_pos rfl]
  have d5 : ad' 5 = arr' := by rw [hd']; show (if _ then _ else _) = _; rw [if_neg (by omega), if_pos rfl]
  have dO : ∀ i, i ≠ 5 → i ≠ 6 + ne → ad' i = ad i := fun i h5 h6 => by rw [hd']; show (if _ then _ else _) = _; rw [if_neg h6, if_neg h5]
  have dM : ∀ i, dm ns (ne + 1) i → i = 6 + ne ∨ i = 5 ∨ (dm ns ne i ∧ i ≠ 5 ∧ i ≠ 6 + ne) := by
    intro i hi
    by_cases q : i = 6 + ne
    · exact Or.inl q
    · by_cases q5 : i = 5
      · exact Or.inr (Or.inl q5)
      · exact Or.inr (Or.inr ⟨dm_s hi q, q5, q⟩)
  clear hd'
  refine ⟨ad', ?_, dO, ?_, fun q q1 q2 q3 => (x5 q q2 (by rw [d5] at q3; exact q3)).trans (o1 q q1)⟩
  · have B0 := B
    obtain ⟨b1, ⟨c1, m1, F1, L1, g1⟩, -, b4, b5, b6, b7, b8, b9, b10⟩ := B
    have id0 : ∀ i, i < 5 → ad' i = ad i := fun i hi => dO i (by omega) (by omega)
    refine ⟨?_, ⟨c1, m1, F1, ?_, fun k hk => ?_⟩, ⟨cap', m + 1, F', ?_, fun e he => ?_⟩, ?_, fun k hk => ?_, fun e he => ?_, fun i j hi hj e => ?_, fun i hi => ?_, fun i hi h4 h5 => ?_, b10⟩
    · rw [id0 0 (by omega), id0 1 (by omega), id0 2 (by omega), id0 3 (by omega)]; exact (kp 0 (Or.inl (by omega)) (by omega) (by omega)).trans b1
    · rw [id0 1 (by omega), id0 4 (by omega)]; exact L1.kept (kp 1 (Or.inl (by omega)) (by omega) (by omega)) (kp 4 (Or.inl (by omega)) (by omega) (by omega))
    · rw [g1 k hk]
      show some (ad (66 + 7 * k + 0)) = some (ad' (66 + 7 * k + 0))
      rw [dO _ (by omega) (by omega)]
    · rw [id0 2 (by omega), d5]; exact x1
    · by_cases q : e = ne
      · subst q; rw [x3, dN]
      · rw [dO _ (by omega) (by omega), x2 e (by omega)]; exact G e (by omega)
    · rw [id0 3 (by omega)]; exact b4.kept (kp 3 (Or.inl (by omega)) (by omega) (by omega))
    · have S0 := (b5 k hk).kept (h' := h') (fun j hj => kp _ (Or.inr (Or.inr (by omega))) (by omega) (by omega))
      have ea : aS ad' k = aS ad k := funext fun j => dO _ (by omega) (by omega)
      rw [ea]; exact S0
    · by_cases q : e = ne
      · subst q; rw [dN]; exact (x5 v (Ne.symm (nv 2 (Or.inl (by omega)))) va).trans e1
      · rw [dO _ (by omega) (by omega)]; exact (kp _ (Or.inr (Or.inl (by omega))) (by omega) (by omega)).trans (b6 e (by omega))
    · rcases dM i hi with rfl | rfl | ⟨i1, i2, i3⟩
      · rw [dN] at e
        rcases dM j hj with rfl | rfl | ⟨j1, j2, j3⟩
        · exact Or.inl rfl
        · rw [d5] at e; exact absurd e va
        · rw [dO j j2 j3] at e; exact absurd e.symm (nv j j1)
      · rw [d5] at e
        rcases dM j hj with rfl | rfl | ⟨j1, j2, j3⟩
        · rw [dN] at e; exact absurd e.symm va
        · exact Or.inl rfl
        · rw [dO j j2 j3] at e; exact absurd e.symm (na j j1 j2)
      · rw [dO i i2 i3] at e ⊢
        rcases dM j hj with rfl | rfl | ⟨j1, j2, j3⟩
        · rw [dN] at e; exact absurd e (nv i i1)
        · rw [d5] at e; exact absurd e (na i i1 i2)
        · rw [dO j j2 j3] at e; exact b7 i j i1 j1 e
    · rcases dM i hi with rfl | rfl | ⟨i1, i2, i3⟩
      · rw [dN]; exact zv
      · rw [d5]
        rcases x4 with ⟨q, -, -⟩ | ⟨q, -, -⟩
        · rw [q]; exact b8 5 (Or.inl (by omega))
        · rw [q]; exact zn
      · rw [dO i i2 i3]; exact b8 i i1
    · rcases dM i hi with rfl | rfl | ⟨i1, i2, i3⟩
      · rw [dN]; exact bv
      · exact absurd rfl h5
      · rw [dO i i2 i3]; exact b9 i i1 h4 h5
  · rw [d5]
    rcases x4 with ⟨q, -, q2⟩ | ⟨q, q2, -⟩
    · exact Or.inl ⟨q, q2, by rw [← q]; exact ba⟩
    · exact Or.inr ⟨q, q2⟩
theorem LbG.addS (B : LbG D b0 h Z ad s c r ns ne) {Ax : Nat → Nat} (h60 : ne ≤ 60) (G : ∀ k, k < ns → F k = some (aS ad k 0)) (hv : ∀ j, j < 7 → h (Ax j) = none) (hn1 : h1 n1 = none) (zv : ∀ j, j < 7 → Z (Ax j)) (bn : b0 ≤ n1) (zn : Z n1)
    (e1 : ShAt D b0 h1 Ax (us s ns)) (hI : inj7 Ax) (o1 : ∀ q, h q ≠ none → h1 q = h q) (P : AddP D b0 h1 n1 (ad 1) (ad 4) cap ns m F (Ax 0) h' n') :
    ∃ ad', LbG D b0 h' Z ad' s c r (ns + 1) ne ∧ (∀ i, i ≠ 4 → (i < 66 + 7 * ns ∨ 66 + 7 * ns + 7 ≤ i) → ad' i = ad i) ∧ (ad' 4 = ad 4 ∧ n' = n1 ∧ b0 ≤ ad 4 ∨ ad' 4 = n1 ∧ n' = n1 + 1) ∧ ∀ q, q ≠ ad 1 → q ≠ ad' 4 → h' q = h1 q := by
  obtain ⟨arr', cap', F', x1, x2, x3, x4, x5⟩ := P
  have ba : b0 ≤ arr' := by
    rcases x1.2.2.2.2 with ⟨q, -⟩ | ⟨-, q⟩
    · have := x1.2.2.1; omega
    · exact q
  have hs : ∀ i, dm ns ne i → h (ad i) ≠ none := fun i hi e => by obtain ⟨x, ex⟩ := B.has_ hi; rw [e] at ex; cases ex
  have nv : ∀ i, dm ns ne i → ∀ j, j < 7 → ad i ≠ Ax j := fun i hi j hj e => hs i hi (by rw [e]; exact hv j hj)
  have na : ∀ i, dm ns ne i → i ≠ 4 → ad i ≠ arr' := by
    intro i hi h5 e
    rcases x4 with ⟨q, -, -⟩ | ⟨q, -, -⟩
    · rw [q] at e
      rcases B.inj i 4 hi (Or.inl (by omega)) e with z | z
      · exact h5 z
      · exact B.hD _ ba (by rw [q, ← e]; exact z)
    · have := o1 _ (hs i hi)
      rw [e, q, hn1] at this
      exact hs i hi (by rw [e, q, ← this])
  have va : ∀ j, j < 7 → Ax j ≠ arr' := by
    intro j hj e
    rcases x4 with ⟨q, -, -⟩ | ⟨q, -, -⟩
    · exact nv 4 (Or.inl (by omega)) j hj (by rw [e, q])
    · obtain ⟨x, ex⟩ := e1.some j hj
      rw [e, q, hn1] at ex; cases ex
  have kp : ∀ i, dm ns ne i → i ≠ 1 → i ≠ 4 → h' (ad i) = h (ad i) := fun i hi h2 h5 => (x5 _ (Ne.symm (B.ne_ (Or.inl (by omega)) hi (by omega) (by omega) (Ne.symm h2))) (na i hi h5)).trans (o1 _ (hs i hi))
  have kn : ∀ j, j < 7 → h' (Ax j) = h1 (Ax j) := fun j hj => x5 _ (Ne.symm (nv 1 (Or.inl (by omega)) j hj)) (va j hj)
  obtain ⟨ad', hd'⟩ : ∃ ad' : Nat → Nat, ad' = fun i => if 66 + 7 * ns ≤ i ∧ i < 66 + 7 * ns + 7 then Ax (i - (66 + 7 * ns)) else if i = 4 then arr' else ad i := ⟨_, rfl⟩
  have dN : ∀ j, j < 7 → ad' (66 + 7 * ns + j) = Ax j := fun j hj => by rw [hd']; show (if _ then _ else _) = _; rw [if_pos (by omega), show 66 + 7 * ns + j - (66 + 7 * ns) = j by omega]
  have d4 : ad' 4 = arr' := by rw [hd']; show (if _ then _ else _) = _; rw [if_neg (by omega), if_pos rfl]
  have dO : ∀ i, i ≠ 4 → (i < 66 + 7 * ns ∨ 66 + 7 * ns + 7 ≤ i) → ad' i = ad i := fun i h4 hi => by rw [hd']; show (if _ then _ else _) = _; rw [if_neg (by omega), if_neg h4]
  have dM : ∀ i, dm (ns + 1) ne i → (∃ j, j < 7 ∧ i = 66 + 7 * ns + j) ∨ i = 4 ∨ (dm ns ne i ∧ i ≠ 4 ∧ (i < 66 + 7 * ns ∨ 66 + 7 * ns + 7 ≤ i)) := by
    intro i hi
    by_cases q : 66 + 7 * ns ≤ i ∧ i < 66 + 7 * ns + 7
    · exact Or.inl ⟨i - (66 + 7 * ns), by omega, by omega⟩
    · by_cases q4 : i = 4
      · exact Or.inr (Or.inl q4)
      · exact Or.inr (Or.inr ⟨dm_t hi q, q4, by omega⟩)
  clear hd'
  refine ⟨ad', ?_, dO, ?_, fun q q2 q3 => x5 q q2 (by rw [d4] at q3; exact q3)⟩
  · have B0 := B
    obtain ⟨b1, -, ⟨c2, m2, F2, L2, g2⟩, b4, b5, b6, b7, b8, b9, b10⟩ := B
    have id0 : ∀ i, i < 6 → i ≠ 4 → ad' i = ad i := fun i hi h4 => dO i h4 (by omega)
    refine ⟨?_, ⟨cap', m + 1, F', ?_, fun k hk => ?_⟩, ⟨c2, m2, F2, ?_, fun e he => ?_⟩, ?_, fun k hk => ?_, fun e he => ?_, fun i j hi hj e => ?_, fun i hi => ?_, fun i hi h4 h5 => ?_, b10⟩
    · rw [id0 0 (by omega) (by omega), id0 1 (by omega) (by omega), id0 2 (by omega) (by omega), id0 3 (by omega) (by omega)]; exact (kp 0 (Or.inl (by omega)) (by omega) (by omega)).trans b1
    · rw [id0 1 (by omega) (by omega), d4]; exact x1
    · show F' k = some (ad' (66 + 7 * k + 0))
      by_cases q : k = ns
      · subst q; rw [x3, dN 0 (by omega)]
      · rw [dO _ (by omega) (by omega), x2 k (by omega)]; exact G k (by omega)
    · rw [id0 2 (by omega) (by omega), id0 5 (by omega) (by omega)]; exact L2.kept (kp 2 (Or.inl (by omega)) (by omega) (by omega)) (kp 5 (Or.inl (by omega)) (by omega) (by omega))
    · rw [g2 e he, dO _ (by omega) (by omega)]
    · rw [id0 3 (by omega) (by omega)]; exact b4.kept (kp 3 (Or.inl (by omega)) (by omega) (by omega))
    · have ext : ∀ {A A' : Nat → Nat} {u : Nat → Int32}, (∀ j, j < 7 → A' j = A j) → ShAt D b0 h' A u → ShAt D b0 h' A' u := by
        intro A A' u hA S
        obtain ⟨t1, ⟨Fs, t2, t3⟩, t4, t5, t6⟩ := S
        refine ⟨by rw [hA 0 (by omega), hA 1 (by omega), hA 2 (by omega)]; exact t1, ⟨Fs, by rw [hA 1 (by omega)]; exact t2, fun d hd => by rw [hA (3 + d) (by omega)]; exact t3 d hd⟩, by rw [hA 2 (by omega)]; exact t4, fun d hd => by rw [hA (3 + d) (by omega)]; exact t5 d hd, fun j hj => by rw [hA j hj]; exact t6 j hj⟩
      by_cases q : k = ns
      · subst q
        exact ext (A := Ax) (fun j hj => dN j hj) (e1.kept kn)
      · exact ext (A := aS ad k) (fun j hj => dO _ (by omega) (by omega)) ((b5 k (by omega)).kept (fun j hj => kp _ (Or.inr (Or.inr (by omega))) (by omega) (by omega)))
    · rw [dO _ (by omega) (by omega)]; exact (kp _ (Or.inr (Or.inl (by omega))) (by omega) (by omega)).trans (b6 e he)
    · rcases dM i hi with ⟨a, ha, rfl⟩ | rfl | ⟨i1, i2, i3⟩
      · rw [dN a ha] at e ⊢
        rcases dM j hj with ⟨b, hb, rfl⟩ | rfl | ⟨j1, j2, j3⟩
        · rw [dN b hb] at e; have := hI a b ha hb e; exact Or.inl (by omega)
        · rw [d4] at e; exact absurd e (va a ha)
        · rw [dO j j2 j3] at e; exact absurd e.symm (nv j j1 a ha)
      · rw [d4] at e
        rcases dM j hj with ⟨b, hb, rfl⟩ | rfl | ⟨j1, j2, j3⟩
        · rw [dN b hb] at e; exact absurd e.symm (va b hb)
        · exact Or.inl rfl
        · rw [dO j j2 j3] at e; exact absurd e.symm (na j j1 j2)
      · rw [dO i i2 i3] at e ⊢
        rcases dM j hj with ⟨b, hb, rfl⟩ | rfl | ⟨j1, j2, j3⟩
        · rw [dN b hb] at e; exact absurd e (nv i i1 b hb)
        · rw [d4] at e; exact absurd e (na i i1 i2)
        · rw [dO j j2 j3] at e; exact b7 i j i1 j1 e
    · rcases dM i hi with ⟨a, ha, rfl⟩ | rfl | ⟨i1, i2, i3⟩
      · rw [dN a ha]; exact zv a ha
      · rw [d4]
        rcases x4 with ⟨q, -, -⟩ | ⟨q, -, -⟩
        · rw [q]; exact b8 4 (Or.inl (by omega))
        · rw [q]; exact zn
      · rw [dO i i2 i3]; exact b8 i i1
    · rcases dM i hi with ⟨a, ha, rfl⟩ | rfl | ⟨i1, i2, i3⟩
      · rw [dN a ha]; exact e1.ge a ha
      · exact absurd rfl h4
      · rw [dO i i2 i3]; exact b9 i i1 h4 h5
  · rw [d4]
    rcases x4 with ⟨q, -, q2⟩ | ⟨q, q2, -⟩
    · exact Or.inl ⟨q, q2, by rw [← q]; exact ba⟩
    · exact Or.inr ⟨q, q2⟩
end LA
/-- how many edges lie in rows ahead of sheet k -/
def edk (c k : Nat) : Nat := k / c * (c - 1) + min (k % c) (c - 1)
theorem edk_b : (List.range 7).all (fun c => (List.range 7).all (fun r => (List.range 36).all (fun k => decide (1 ≤ c → 1 ≤ r → k < c * r → edk c k ≤ 30 ∧ (k % c < c - 1 → edk c (k + 1) = edk c k + 1 ∧ m_fst c r (edk c k) = k ∧ m_snd c r (edk c k) = k + 1 ∧ m_sd c r (edk c k) = 1) ∧ (¬ k % c < c - 1 → edk c (k + 1) = edk c k))))) = true := by decide +kernel
theorem edk_c : (List.range 7).all (fun c => (List.range 7).all (fun r => decide (1 ≤ c → 1 ≤ r → edk c (c * r) = m_re c r))) = true := by decide +kernel
theorem edk_d : (List.range 7).all (fun c => (List.range 7).all (fun r => (List.range 30).all (fun k => decide (1 ≤ c → 1 ≤ r → k < c * (r - 1) → m_fst c r (m_re c r + k) = k ∧ m_snd c r (m_re c r + k) = k + c ∧ m_sd c r (m_re c r + k) = 2)))) = true := by decide +kernel
theorem edk_1 {s : Nat → Int32} {c r k : Nat} (I : MI s c r) (hk : k < c * r) : edk c k ≤ 30 ∧ (k % c < c - 1 → edk c (k + 1) = edk c k + 1 ∧ m_fst c r (edk c k) = k ∧ m_snd c r (edk c k) = k + 1 ∧ m_sd c r (edk c k) = 1) ∧ (¬ k % c < c - 1 → edk c (k + 1) = edk c k) :=
  of_decide_eq_true (all_lt (all_lt (all_lt edk_b (by have := I.2.2.2.1; omega)) (by have := I.2.2.2.2.2; omega)) (by have := (m_ed_le I).2.1; omega)) I.2.2.1 I.2.2.2.2.1 hk
theorem edk_2 {s : Nat → Int32} {c r : Nat} (I : MI s c r) : edk c (c * r) = m_re c r :=
  of_decide_eq_true (all_lt (all_lt edk_c (by have := I.2.2.2.1; omega)) (by have := I.2.2.2.2.2; omega)) I.2.2.1 I.2.2.2.2.1
theorem edk_3 {s : Nat → Int32} {c r k : Nat} (I : MI s c r) (hk : k < c * (r - 1)) : m_fst c r (m_re c r + k) = k ∧ m_snd c r (m_re c r + k) = k + c ∧ m_sd c r (m_re c r + k) = 2 :=
  of_decide_eq_true (all_lt (all_lt (all_lt edk_d (by have := I.2.2.2.1; omega)) (by have := I.2.2.2.2.2; omega)) (by have := (m_ed_le I).2.2.2; omega)) I.2.2.1 I.2.2.2.2.1 hk
