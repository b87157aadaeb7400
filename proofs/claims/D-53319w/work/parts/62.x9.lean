/-- a library without sheets and edges, of any columns and rows -/
def LbZ (D : va_G) (b0 : Nat) (h : GH) (Z : Nat → Prop) (ad : Nat → Nat) (s : Nat → Int32) (v0 v1 : Value) (m1 m2 : Int32) : Prop :=
  h (ad 0) = gO 1 [v0, v1, .ref (ad 1), .ref (ad 2), .ref (ad 3)] ∧ h (ad 1) = gO 7 [.int m1, .ref (D.1 201), .int (nI 0)] ∧ h (ad 2) = gO 7 [.int m2, .ref (D.1 201), .int (nI 0)] ∧ IA D h (ad 3) 2 (fun i => s (2 + i)) ∧ h (D.1 201) = gP D 102 0 (fun _ => none) ∧
  (∀ i j, i < 4 → j < 4 → ad i = ad j → i = j) ∧ (∀ i, i < 6 → Z (ad i)) ∧ (∀ i, i < 4 → b0 ≤ ad i) ∧ (∀ x : Nat, b0 ≤ x → x ≠ D.1 201) ∧ ad 4 = D.1 201 ∧ ad 5 = D.1 201
theorem LbZ.g {D : va_G} {b0 : Nat} {h : GH} {Z : Nat → Prop} {ad : Nat → Nat} {s : Nat → Int32} {c r : Nat} {m1 m2 : Int32} (B : LbZ D b0 h Z ad s (.int (nI c)) (.int (nI r)) m1 m2) : LbG D b0 h Z ad s c r 0 0 := by
  obtain ⟨b1, b2, b3, b4, b5, b6, b7, b8, b9, b10, b11⟩ := B
  have d6 : ∀ i, dm 0 0 i → i < 6 := fun i hi => by rcases hi with q | q | q <;> omega
  refine ⟨b1, ⟨0, m1, fun _ => none, ⟨b2.trans (by rw [b10]), by rw [b10]; exact b5, Nat.le_refl _, by omega, Or.inl ⟨rfl, b10⟩⟩, fun k hk => absurd hk (by omega)⟩, ⟨0, m2, fun _ => none, ⟨b3.trans (by rw [b11]), by rw [b11]; exact b5, Nat.le_refl _, by omega, Or.inl ⟨rfl, b11⟩⟩, fun k hk => absurd hk (by omega)⟩, b4, fun k hk => absurd hk (by omega), fun e he => absurd he (by omega), fun i j hi hj e => ?_, fun i hi => b7 i (d6 i hi), fun i hi h4 h5 => b8 i (by have := d6 i hi; omega), b9⟩
  have hi6 := d6 i hi
  have hj6 := d6 j hj
  by_cases qi : i < 4
  · by_cases qj : j < 4
    · exact Or.inl (b6 i j qi qj e)
    · exact absurd (show ad i = D.1 201 by rw [e]; rcases (show j = 4 ∨ j = 5 by omega) with q | q <;> rw [q] <;> assumption) (b9 _ (b8 i qi))
  · exact Or.inr (by rcases (show i = 4 ∨ i = 5 by omega) with q | q <;> rw [q] <;> assumption)
theorem LbZ.put {D : va_G} {b0 : Nat} {h h' : GH} {Z : Nat → Prop} {ad : Nat → Nat} {s : Nat → Int32} {v0 v1 w0 w1 : Value} {m1 m2 : Int32} (B : LbZ D b0 h Z ad s v0 v1 m1 m2) (e : h' (ad 0) = gO 1 [w0, w1, .ref (ad 1), .ref (ad 2), .ref (ad 3)]) (o : ∀ q, q ≠ ad 0 → h' q = h q) : LbZ D b0 h' Z ad s w0 w1 m1 m2 := by
  obtain ⟨b1, b2, b3, b4, b5, b6, b7, b8, b9, b10⟩ := B
  have n0 : ∀ i, i < 4 → i ≠ 0 → ad i ≠ ad 0 := fun i hi hn q => hn (b6 i 0 hi (by omega) q)
  exact ⟨e, (o _ (n0 1 (by omega) (by omega))).trans b2, (o _ (n0 2 (by omega) (by omega))).trans b3, b4.kept (o _ (n0 3 (by omega) (by omega))), (o _ (Ne.symm (b9 _ (b8 0 (by omega))))).trans b5, b6, b7, b8, b9, b10⟩
theorem LbZ.clr {D : va_G} {b0 : Nat} {h h' : GH} {Z : Nat → Prop} {ad : Nat → Nat} {s : Nat → Int32} {v0 v1 : Value} {m1 m2 m : Int32} (B : LbZ D b0 h Z ad s v0 v1 m1 m2) : (h' (ad 1) = gO 7 [.int m, .ref (D.1 201), .int (nI 0)] → (∀ q, q ≠ ad 1 → h' q = h q) → LbZ D b0 h' Z ad s v0 v1 m m2) ∧ (h' (ad 2) = gO 7 [.int m, .ref (D.1 201), .int (nI 0)] → (∀ q, q ≠ ad 2 → h' q = h q) → LbZ D b0 h' Z ad s v0 v1 m1 m) := by
  obtain ⟨b1, b2, b3, b4, b5, b6, b7, b8, b9, b10⟩ := B
  refine ⟨fun e o => ?_, fun e o => ?_⟩
  · have n0 : ∀ i, i < 4 → i ≠ 1 → ad i ≠ ad 1 := fun i hi hn q => hn (b6 i 1 hi (by omega) q)
    exact ⟨(o _ (n0 0 (by omega) (by omega))).trans b1, e, (o _ (n0 2 (by omega) (by omega))).trans b3, b4.kept (o _ (n0 3 (by omega) (by omega))), (o _ (Ne.symm (b9 _ (b8 1 (by omega))))).trans b5, b6, b7, b8, b9, b10⟩
  · have n0 : ∀ i, i < 4 → i ≠ 2 → ad i ≠ ad 2 := fun i hi hn q => hn (b6 i 2 hi (by omega) q)
    exact ⟨(o _ (n0 0 (by omega) (by omega))).trans b1, (o _ (n0 1 (by omega) (by omega))).trans b2, e, b4.kept (o _ (n0 3 (by omega) (by omega))), (o _ (Ne.symm (b9 _ (b8 2 (by omega))))).trans b5, b6, b7, b8, b9, b10⟩
theorem ok_X1_begin : yX1_begin.cls = "MapSheets$Library" ∧ yX1_begin.cls ≠ "java/lang/invoke/MethodHandle" ∧ yX1_begin.cls ≠ "java/lang/invoke/VarHandle" ∧ (parseMethodDescriptor yX1_begin.desc).map (fun d => d.parameters.length) = some 2 := by decide +kernel
set_option maxHeartbeats 4000000 in
set_option maxRecDepth 100000 in
theorem met_X1_begin {l : Launch} {D : va_G} {b0 n : Nat} {h : GH} {Z : Nat → Prop} {ad : Nat → Nat} {s : Nat → Int32} {c r : Nat} {v0 v1 : Value} {m1 m2 : Int32} (B : LbZ D b0 h Z ad s v0 v1 m1 m2) (I : MI s c r) (hz : ∀ e, e < 60 → s (4 + e) = nI 0) (hdf : ∀ k, k < 36 → ∀ j, j < 53 → s (ix k j) = m_df j) (hZ : ∀ q, n ≤ q → Z q) : gMet l yX1_begin cX1_begin 4 (none) 8 212 408 12960 D b0 h n [.ref (ad 0), .int (nI c), .int (nI r)] (pV (fun h' n' => ∃ ad', LbAt D b0 h' Z ad' s c r ∧ (∀ j, j < 4 → ad' j = ad j) ∧ (∀ q, q < n → q ≠ ad 0 → q ≠ ad 1 → q ≠ ad 2 → h' q = h q) ∧ n ≤ n')) := by
  refine gMet.of (lv := [(0, _), (1, _), (2, _)]) (by decide) (Nat.le_of_ble_eq_true rfl) rfl ?_
  intro p_ e_ U0 m_ args_ below_ meth_ co_ C hr hlk hnm
  have hI := m_ed_le I
  obtain ⟨I0, I1, I2, I3, I4, I5⟩ := id I
  have hgL := B.2.2.2.2.2.2.2.1 0 (by omega)
  have h5 := B.2.2.2.2.2.2.2.2.2.2
  refine g_aload_n C dX1_begin_0 rfl 0 rfl ?_
  refine g_iload_n C dX1_begin_1 rfl 1 rfl ?_
  refine g_put C in_X1 tyX1 tyX1_ok nmX1 B.1 hgL rfl 0 (by decide) q139 (fun _ hx => hx) rfl rfl rfl rfl (Nat.le_of_ble_eq_true rfl) rfl dX1_begin_2 ?_
  refine g_opq (fun h2 e2 o2 => ?_)
  refine g_aload_n C dX1_begin_5 rfl 0 rfl ?_
  refine g_iload_n C dX1_begin_6 rfl 2 rfl ?_
  refine g_put C in_X1 tyX1 tyX1_ok nmX1 e2 hgL rfl 1 (by decide) q141 (fun _ hx => hx) rfl rfl rfl rfl (Nat.le_of_ble_eq_true rfl) rfl dX1_begin_7 ?_
  refine g_opq (fun h7 e7 o7 => ?_)
  refine g_aload_n C dX1_begin_10 rfl 0 rfl ?_
  refine g_get C in_X1 e7 rfl 2 (by decide) q143 (fun _ hx => hx) rfl dX1_begin_11 ?_
  have BZ1 := (B.put e2 o2).put (w0 := .int (nI c)) (w1 := .int (nI r)) e7 o7
  refine g_V0V C (met_J2_clear BZ1.2.1 (BZ1.2.2.2.2.2.2.2.1 1 (by omega))) (cwV 0 C.2.2.2.2.1 (lw_V q215 q216 q217 q67 q218) rfl rfl rfl ok_J2_clear ⟨(Nat.le_of_ble_eq_true rfl), (Nat.le_of_ble_eq_true rfl)⟩) BZ1.2.1 rfl (Nat.le_of_ble_eq_true rfl) dX1_begin_14 ⟨(by show _ ≤ 408; omega), (by show _ ≤ 12960; omega)⟩ (fun h_14 n_14 hp_14 hn_14 => ?_)
  obtain ⟨rfl, rfl⟩ := hp_14
  refine g_opq (fun h14 e14 o14 => ?_)
  have BZ2 := BZ1.clr.1 e14 o14
  refine g_aload_n C dX1_begin_17 rfl 0 rfl ?_
  refine g_get C in_X1 BZ2.1 rfl 3 (by decide) q145 (fun _ hx => hx) rfl dX1_begin_18 ?_
  refine g_V0V C (met_J2_clear BZ2.2.2.1 (BZ2.2.2.2.2.2.2.2.1 2 (by omega))) (cwV 0 C.2.2.2.2.1 (lw_V q215 q216 q217 q67 q218) rfl rfl rfl ok_J2_clear ⟨(Nat.le_of_ble_eq_true rfl), (Nat.le_of_ble_eq_true rfl)⟩) BZ2.2.2.1 rfl (Nat.le_of_ble_eq_true rfl) dX1_begin_21 ⟨(by show _ ≤ 408; omega), (by show _ ≤ 12960; omega)⟩ (fun h_21 n_21 hp_21 hn_21 => ?_)
  obtain ⟨rfl, rfl⟩ := hp_21
  refine g_opq (fun h21 e21 o21 => ?_)
  have BZ := BZ2.clr.2 e21 o21
  refine g_iconst C dX1_begin_24 kc_0 ?_
  refine g_istore_n (lv' := [(3, _), (0, _), (1, _), (2, _)]) C dX1_begin_25 rfl (by decide) rfl ?_
  have loop : ∀ (N_ i : Nat) (h1 : GH) (n1 : Nat) (ad1 : Nat → Nat), i ≤ c * r → c * r < i + N_ → LbG D b0 h1 Z ad1 s c r i 0 → (∀ j, j ≠ 4 → j < 6 → ad1 j = ad j) → (ad1 4 = D.1 201 ∨ n ≤ ad1 4) → (∀ q, q < n → q ≠ ad 0 → q ≠ ad 1 → q ≠ ad 2 → h1 q = h q) → n ≤ n1 → gW p_ l e_ (headSpec (ws_ yX1_begin cX1_begin 4 (none)) (gRm 8 212 408 12960)).room U0 m_ args_ below_ meth_ co_ (MQ below_ (gQc D b0 (pV (fun h' n' => ∃ ad', LbAt D b0 h' Z ad' s c r ∧ (∀ j, j < 4 → ad' j = ad j) ∧ (∀ q, q < n → q ≠ ad 0 → q ≠ ad 1 → q ≠ ad 2 → h' q = h q) ∧ n ≤ n'))) args_ U0 408 12960 (gA b0)) D b0 4 h1 n1 (8 * i) (170 * i) 26 [(0, .ref (ad 0)), (1, .int (nI c)), (2, .int (nI r)), (3, .int (nI i))] [] := by
    intro N_
    induction N_ with
    | zero => intro i h1 n1 ad1 h1_ h2_; exact absurd h2_ (by omega)
    | succ N_ ih =>
      intro i h1 n1 ad1 h1_ h2_ B1 hA h41 fr hn1
      refine g_none (fun hno1 => ?_)
      refine g_size C (fun hb1 => ?_)
      have ob := B1.obj
      rw [hA 0 (by omega) (by omega), hA 1 (by omega) (by omega), hA 2 (by omega) (by omega), hA 3 (by omega) (by omega)] at ob
      obtain ⟨cp, mm, F, L, G⟩ := B1.l1
      rw [hA 1 (by omega) (by omega)] at L
      have hl0 : ad 0 < n1 := by have := B1.lt hno1 (i := 0) (Or.inl (by omega)); rwa [hA 0 (by omega) (by omega)] at this
      have hl1 : ad 1 < n1 := by have := B1.lt hno1 (i := 1) (Or.inl (by omega)); rwa [hA 1 (by omega) (by omega)] at this
      have hl4 := B1.lt hno1 (i := 4) (Or.inl (by omega))
      refine g_iload_n C dX1_begin_26 rfl 3 rfl ?_
      refine g_aload_n C dX1_begin_27 rfl 0 rfl ?_
      refine g_get C in_X1 ob rfl 0 (by decide) q139 (fun _ hx => hx) rfl dX1_begin_28 ?_
      refine g_aload_n C dX1_begin_31 rfl 0 rfl ?_
      refine g_get C in_X1 ob rfl 1 (by decide) q141 (fun _ hx => hx) rfl dX1_begin_32 ?_
      refine g_imulN C dX1_begin_35 ?_
      refine g_icmp_geN (tgt := 60) C dX1_begin_36 (by decide) (by omega) (by omega) (fun c_36 => ?_) (fun c_36 => ?_)
      · 
        refine g_aload_n C dX1_begin_60 rfl 0 rfl ?_
        obtain rfl : i = c * r := by omega
        have hA0 := hA 0 (by omega) (by omega)
        refine g_eq (st' := [.ref (ad1 0)]) rfl rfl (by rw [hA0]) ?_
        refine g_V0V C (met_X1_addEdges (ad := ad1) B1 I hz ((hA 5 (by omega) (by omega)).trans h5) (fun q hq => hZ q (by omega))) (cwV 0 C.2.2.2.2.1 (lw_V q316 q318 qs3 q64 q319) rfl rfl rfl ok_X1_addEdges ⟨(Nat.le_of_ble_eq_true rfl), (Nat.le_of_ble_eq_true rfl)⟩) B1.obj rfl (Nat.le_of_ble_eq_true rfl) dX1_begin_61 ⟨(by show _ ≤ 408; omega), (by show _ ≤ 12960; omega)⟩ (fun h_61 n_61 hp_61 hn_61 => ?_)
        obtain ⟨ad3, B3, c1, c2, c3⟩ := hp_61
        exact g_vret C hr hlk dX1_begin_64 (by omega) (by omega) ⟨rfl, ⟨ad3, B3, fun j hj => (c1 j (by omega) (by omega)).trans (hA j (by omega) (by omega)), fun q q1 q2 q3 q4 => (c2 q (by omega) (by rw [hA 2 (by omega) (by omega)]; exact q4)).trans (fr q q1 q2 q3 q4), by omega⟩⟩
      · refine g_aload_n C dX1_begin_39 rfl 0 rfl ?_
        refine g_get C in_X1 ob rfl 2 (by decide) q143 (fun _ hx => hx) rfl dX1_begin_40 ?_
        refine g_new (ci := 2) (fs := [.null, .null, .int 0, .int 0, .float 0, .int 0]) C in_X2 tyX2 tyX2_ok q219 q220 q73 rfl born_X2 (by show _ ≤ 408; omega) (by show _ ≤ 12960; omega) dX1_begin_43 ?_
        refine g_opq (fun h43 e43 o43 => ?_)
        refine g_dup C dX1_begin_46 rfl ?_
        refine g_I0V C (met_X2_init e43 hb1) (cwI 0 C.2.2.2.2.1 (lw_meth q223) rfl rfl rfl (C.2.2.2.2.1 _ q73) (C.2.2.2.2.1 _ q221) (C.2.2.2.2.1 _ q222) rfl ok_X2_init ⟨(Nat.le_of_ble_eq_true rfl), (Nat.le_of_ble_eq_true rfl)⟩) (Nat.le_of_ble_eq_true rfl) dX1_begin_47 ⟨(by show _ ≤ 408; omega), (by show _ ≤ 12960; omega)⟩ (fun h_47 n_47 hp_47 hn_47 => ?_)
        obtain ⟨SP, rfl⟩ := hp_47
        have ox : ∀ q, q < n1 → h_47 q = h1 q := fun q hq => (SP.2.2.2.2 q (by omega) (by omega)).trans (o43 q (by omega))
        have SS : ShAt D b0 h_47 (gNew n1 (n1 + 1)) (us s i) := (SP.sh hb1 (by omega)).congr (fun j hj => hdf i (by omega) j hj)
        refine g_none (fun hno2 => ?_)
        refine g_V1I C (met_J2_add_A (L.kept (ox _ (by omega)) (ox _ (by omega))) (by have := B1.ge 1 (Or.inl (by omega)) (by omega) (by omega); rwa [hA 1 (by omega) (by omega)] at this) (gObj.of SS.obj rfl q1478) (by omega) (fun k hk w hw => by rw [G k hk] at hw; cases hw; exact gObj.of ((ox _ (B1.lt hno1 (Or.inr (Or.inr (by omega))))).trans (B1.sh k hk).obj) rfl q1478)) (cwV 1 C.2.2.2.2.1 (lw_V q256 q257 q258 q67 q259) rfl rfl rfl ok_J2_add ⟨(Nat.le_of_ble_eq_true rfl), (Nat.le_of_ble_eq_true rfl)⟩) ((ox _ (by omega)).trans L.1) rfl (Nat.le_of_ble_eq_true rfl) dX1_begin_50 ⟨(by show _ ≤ 408; omega), (by show _ ≤ 12960; omega)⟩ (fun r_50 h_50 n_50 hp_50 hn_50 => ?_)
        obtain ⟨rfl, P⟩ := hp_50
        rw [← hA 1 (by omega) (by omega)] at P
        obtain ⟨ad2, B2, a1, a2, a3⟩ := B1.addS (Ax := gNew n1 (n1 + 1)) (by omega) G (fun j hj => hno1 _ (by unfold gNew; split <;> omega)) (hno2 _ (Nat.le_refl _)) (fun j hj => hZ _ (by unfold gNew; split <;> omega)) (by omega) (hZ _ (by omega)) SS (gNew_inj (by omega)) (fun q hq => ox q (Nat.lt_of_not_le (fun z => hq (hno1 q z)))) P
        rw [hA 1 (by omega) (by omega)] at a3
        have hA2 : ∀ j, j ≠ 4 → j < 6 → ad2 j = ad j := fun j j1 j2 => (a1 j j1 (by omega)).trans (hA j j1 j2)
        have h42 : n ≤ ad2 4 := by
          rcases a2 with ⟨q1, q2, q3⟩ | ⟨q1, q2⟩
          · rw [q1]; exact h41.resolve_left (fun z => B1.hD _ q3 z)
          · omega
        have hn2 : n1 ≤ n_50 := by omega
        have frx : ∀ q, q < n → q ≠ ad 0 → q ≠ ad 1 → q ≠ ad 2 → h_50 q = h q := fun q q1 q2 q3 q4 => (a3 q q3 (by omega)).trans ((ox q (by omega)).trans (fr q q1 q2 q3 q4))
        refine g_pop C dX1_begin_53 rfl ?_
        refine g_iinc (lv' := [(3, _), (0, _), (1, _), (2, _)]) (t := 3) C dX1_begin_54 rfl (nI_1 _) (by decide) rfl ?_
        refine g_goto (tgt := 26) C dX1_begin_57 (by decide) ?_
        refine g_pick (lv' := [(0, _), (1, _), (2, _), (3, _)]) [1, 2, 3, 0] rfl ?_
        refine g_widen (k1 := 8 * (i + 1)) (k2 := 170 * (i + 1)) (by omega) (by omega) ?_
        exact ih (i + 1) h_50 n_50 ad2 (by omega) (by omega) B2 hA2 (Or.inr h42) frx (by omega)
  refine g_pick (lv' := [(0, _), (1, _), (2, _), (3, _)]) [1, 2, 3, 0] rfl ?_
  have BG := BZ.g
  refine g_widen (k1 := 8 * 0) (k2 := 170 * 0) (by omega) (by omega) ?_
  exact loop (c * r + 1) 0 h21 n ad (by omega) (by omega) BG (fun _ _ _ => rfl) (Or.inl BZ.2.2.2.2.2.2.2.2.2.1) (fun q q1 q2 q3 q4 => (o21 q q4).trans ((o14 q q3).trans ((o7 q q2).trans (o2 q q2)))) (Nat.le_refl _)
