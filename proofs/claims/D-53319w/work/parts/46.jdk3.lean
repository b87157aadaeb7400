theorem AddP.back {D : va_G} {b0 : Nat} {h h7 : GH} {n a arr cap sz : Nat} {m : Int32} {F : Nat → Option Nat} {v : Nat} {h' : GH} {n' : Nat} (H : AddP D b0 h7 n a arr cap sz m F v h' n') (o : ∀ q, q ≠ a → h7 q = h q) : AddP D b0 h n a arr cap sz m F v h' n' := by
  obtain ⟨arr', cap', F', x1, x2, x3, x4, x5⟩ := H
  exact ⟨arr', cap', F', x1, x2, x3, x4, fun q q1 q2 => (x5 q q1 q2).trans (o q q1)⟩
theorem AddX.back {D : va_G} {b0 : Nat} {h h7 : GH} {a arr cap sz n1 : Nat} {m : Int32} {F : Nat → Option Nat} {v : Nat} {h' : GH} {n' : Nat} (H : AddX D b0 h7 a arr cap sz m F v n1 h' n') (o : ∀ q, q ≠ a → h7 q = h q) : AddX D b0 h a arr cap sz m F v n1 h' n' := by
  obtain ⟨F', x1, x2, x3, x4, x5⟩ := H
  exact ⟨F', x1, x2, x3, x4, fun q q1 q2 => (x5 q q1 q2).trans (o q q1)⟩
theorem ok_J2_add : yJ2_add.cls = "java/util/ArrayList" ∧ yJ2_add.cls ≠ "java/lang/invoke/MethodHandle" ∧ yJ2_add.cls ≠ "java/lang/invoke/VarHandle" ∧ (parseMethodDescriptor yJ2_add.desc).map (fun d => d.parameters.length) = some 1 := by decide +kernel
set_option maxHeartbeats 4000000 in
set_option maxRecDepth 100000 in
theorem met_J2_add_R {l : Launch} {D : va_G} {b0 n : Nat} {h : GH} {a arr cap sz : Nat} {m : Int32} {F : Nat → Option Nat} {v : Nat} (L : LiAt D b0 h a arr cap sz m F) (ha : b0 ≤ a) (hv : gObj h v) (h0 : sz < cap) : gMet l yJ2_add cJ2_add 2 ((some .boolean)) 1 23 0 0 D b0 h n [.ref a, .ref v] (pI (fun r' h' n' => nI 1 = r' ∧ AddX D b0 h a arr cap sz m F v n h' n')) := by
  refine gMet.of (lv := [(0, _), (1, _)]) (by decide) (Nat.le_of_ble_eq_true rfl) rfl ?_
  intro p_ e_ U0 m_ args_ below_ meth_ co_ C hr hlk hnm
  have hne := L.ne
  obtain ⟨hA, hR, hc1, hc2, hc3⟩ := id L
  refine g_none (fun hno => ?_)
  refine g_aload_n C dJ2_add_0 rfl 0 rfl ?_
  refine g_dup C dJ2_add_1 rfl ?_
  refine g_get C in_J2 hA rfl 0 (by decide) q131 (u_same (C.2.2.2.2.1 _ q130)) rfl dJ2_add_2 ?_
  refine g_iconst C dJ2_add_5 kc_1 ?_
  refine g_iadd C dJ2_add_6 ?_
  refine g_topi (y := m + 1) rfl ?_
  refine g_put C in_J2 tyJ2 tyJ2_ok nmJ2 hA ha rfl 0 (by decide) q131 (u_same (C.2.2.2.2.1 _ q130)) rfl rfl rfl rfl (Nat.le_of_ble_eq_true rfl) rfl dJ2_add_7 ?_
  refine g_opq (fun h7 e7 o7 => ?_)
  refine g_aload_n C dJ2_add_10 rfl 0 rfl ?_
  refine g_aload_n C dJ2_add_11 rfl 1 rfl ?_
  refine g_aload_n C dJ2_add_12 rfl 0 rfl ?_
  refine g_get C in_J2 e7 rfl 1 (by decide) q124 (fun _ hx => hx) rfl dJ2_add_13 ?_
  refine g_aload_n C dJ2_add_16 rfl 0 rfl ?_
  refine g_get C in_J2 e7 rfl 2 (by decide) q127 (fun _ hx => hx) rfl dJ2_add_17 ?_
  refine g_topi (y := nI (sz)) rfl ?_
  refine g_V3V C (met_J2_add_2_R ⟨e7, (o7 _ hne).trans hR, hc1, hc2, hc3⟩ ha (hv.upd e7 (fun q q1 _ => o7 q q1) (gObj.ne hv (hno n (Nat.le_refl n))) hA) h0) (cwV 3 C.2.2.2.2.1 (lw_V q260 q262 qs0 q67 q263) rfl rfl rfl ok_J2_add_2 ⟨(Nat.le_of_ble_eq_true rfl), (Nat.le_of_ble_eq_true rfl)⟩) e7 rfl (Nat.le_of_ble_eq_true rfl) dJ2_add_20 ⟨(Nat.le_of_ble_eq_true rfl), (Nat.le_of_ble_eq_true rfl)⟩ (fun h_20 n_20 hp_20 hn_20 => ?_)
  refine g_iconst C dJ2_add_23 kc_1 ?_
  exact g_iret C hr hlk dJ2_add_24 (Nat.le_of_ble_eq_true rfl) (Nat.le_of_ble_eq_true rfl) rfl ⟨_, rfl, ⟨rfl, hp_20.back o7⟩⟩
set_option maxHeartbeats 4000000 in
set_option maxRecDepth 100000 in
theorem met_J2_add_E {l : Launch} {D : va_G} {b0 n : Nat} {h : GH} {a arr cap sz : Nat} {m : Int32} {F : Nat → Option Nat} {v : Nat} (L : LiAt D b0 h a arr cap sz m F) (ha : b0 ≤ a) (hv : gObj h v) (h0 : cap = 0) : gMet l yJ2_add cJ2_add 2 ((some .boolean)) 4 87 1 10 D b0 h n [.ref a, .ref v] (pI (fun r' h' n' => nI 1 = r' ∧ AddX D b0 h a n 10 sz m F v (n + 1) h' n')) := by
  refine gMet.of (lv := [(0, _), (1, _)]) (by decide) (Nat.le_of_ble_eq_true rfl) rfl ?_
  intro p_ e_ U0 m_ args_ below_ meth_ co_ C hr hlk hnm
  have hne := L.ne
  obtain ⟨hA, hR, hc1, hc2, hc3⟩ := id L
  refine g_none (fun hno => ?_)
  refine g_aload_n C dJ2_add_0 rfl 0 rfl ?_
  refine g_dup C dJ2_add_1 rfl ?_
  refine g_get C in_J2 hA rfl 0 (by decide) q131 (u_same (C.2.2.2.2.1 _ q130)) rfl dJ2_add_2 ?_
  refine g_iconst C dJ2_add_5 kc_1 ?_
  refine g_iadd C dJ2_add_6 ?_
  refine g_topi (y := m + 1) rfl ?_
  refine g_put C in_J2 tyJ2 tyJ2_ok nmJ2 hA ha rfl 0 (by decide) q131 (u_same (C.2.2.2.2.1 _ q130)) rfl rfl rfl rfl (Nat.le_of_ble_eq_true rfl) rfl dJ2_add_7 ?_
  refine g_opq (fun h7 e7 o7 => ?_)
  refine g_aload_n C dJ2_add_10 rfl 0 rfl ?_
  refine g_aload_n C dJ2_add_11 rfl 1 rfl ?_
  refine g_aload_n C dJ2_add_12 rfl 0 rfl ?_
  refine g_get C in_J2 e7 rfl 1 (by decide) q124 (fun _ hx => hx) rfl dJ2_add_13 ?_
  refine g_aload_n C dJ2_add_16 rfl 0 rfl ?_
  refine g_get C in_J2 e7 rfl 2 (by decide) q127 (fun _ hx => hx) rfl dJ2_add_17 ?_
  refine g_topi (y := nI (sz)) rfl ?_
  refine g_V3V C (met_J2_add_2_E ⟨e7, (o7 _ hne).trans hR, hc1, hc2, hc3⟩ ha (hv.upd e7 (fun q q1 _ => o7 q q1) (gObj.ne hv (hno n (Nat.le_refl n))) hA) h0) (cwV 3 C.2.2.2.2.1 (lw_V q260 q262 qs0 q67 q263) rfl rfl rfl ok_J2_add_2 ⟨(Nat.le_of_ble_eq_true rfl), (Nat.le_of_ble_eq_true rfl)⟩) e7 rfl (Nat.le_of_ble_eq_true rfl) dJ2_add_20 ⟨(Nat.le_of_ble_eq_true rfl), (Nat.le_of_ble_eq_true rfl)⟩ (fun h_20 n_20 hp_20 hn_20 => ?_)
  refine g_iconst C dJ2_add_23 kc_1 ?_
  exact g_iret C hr hlk dJ2_add_24 (Nat.le_of_ble_eq_true rfl) (Nat.le_of_ble_eq_true rfl) rfl ⟨_, rfl, ⟨rfl, hp_20.back o7⟩⟩
set_option maxHeartbeats 4000000 in
set_option maxRecDepth 100000 in
theorem met_J2_add_A {l : Launch} {D : va_G} {b0 n : Nat} {h : GH} {a arr cap sz : Nat} {m : Int32} {F : Nat → Option Nat} {v : Nat} (L : LiAt D b0 h a arr cap sz m F) (ha : b0 ≤ a) (hv : gObj h v) (h0 : sz ≤ 72) (hel : ∀ i, i < sz → ∀ v, F i = some v → gObj h v) : gMet l yJ2_add cJ2_add 2 ((some .boolean)) 6 170 1 110 D b0 h n [.ref a, .ref v] (pI (fun r' h' n' => nI 1 = r' ∧ AddP D b0 h n a arr cap sz m F v h' n')) := by
  refine gMet.of (lv := [(0, _), (1, _)]) (by decide) (Nat.le_of_ble_eq_true rfl) rfl ?_
  intro p_ e_ U0 m_ args_ below_ meth_ co_ C hr hlk hnm
  have hne := L.ne
  obtain ⟨hA, hR, hc1, hc2, hc3⟩ := id L
  refine g_none (fun hno => ?_)
  refine g_aload_n C dJ2_add_0 rfl 0 rfl ?_
  refine g_dup C dJ2_add_1 rfl ?_
  refine g_get C in_J2 hA rfl 0 (by decide) q131 (u_same (C.2.2.2.2.1 _ q130)) rfl dJ2_add_2 ?_
  refine g_iconst C dJ2_add_5 kc_1 ?_
  refine g_iadd C dJ2_add_6 ?_
  refine g_topi (y := m + 1) rfl ?_
  refine g_put C in_J2 tyJ2 tyJ2_ok nmJ2 hA ha rfl 0 (by decide) q131 (u_same (C.2.2.2.2.1 _ q130)) rfl rfl rfl rfl (Nat.le_of_ble_eq_true rfl) rfl dJ2_add_7 ?_
  refine g_opq (fun h7 e7 o7 => ?_)
  refine g_aload_n C dJ2_add_10 rfl 0 rfl ?_
  refine g_aload_n C dJ2_add_11 rfl 1 rfl ?_
  refine g_aload_n C dJ2_add_12 rfl 0 rfl ?_
  refine g_get C in_J2 e7 rfl 1 (by decide) q124 (fun _ hx => hx) rfl dJ2_add_13 ?_
  refine g_aload_n C dJ2_add_16 rfl 0 rfl ?_
  refine g_get C in_J2 e7 rfl 2 (by decide) q127 (fun _ hx => hx) rfl dJ2_add_17 ?_
  refine g_topi (y := nI (sz)) rfl ?_
  refine g_V3V C (met_J2_add_2_A ⟨e7, (o7 _ hne).trans hR, hc1, hc2, hc3⟩ ha (hv.upd e7 (fun q q1 _ => o7 q q1) (gObj.ne hv (hno n (Nat.le_refl n))) hA) h0 (fun i hi w hw => (hel i hi w hw).upd e7 (fun q q1 _ => o7 q q1) (gObj.ne (hel i hi w hw) (hno n (Nat.le_refl n))) hA)) (cwV 3 C.2.2.2.2.1 (lw_V q260 q262 qs0 q67 q263) rfl rfl rfl ok_J2_add_2 ⟨(Nat.le_of_ble_eq_true rfl), (Nat.le_of_ble_eq_true rfl)⟩) e7 rfl (Nat.le_of_ble_eq_true rfl) dJ2_add_20 ⟨(Nat.le_of_ble_eq_true rfl), (Nat.le_of_ble_eq_true rfl)⟩ (fun h_20 n_20 hp_20 hn_20 => ?_)
  refine g_iconst C dJ2_add_23 kc_1 ?_
  exact g_iret C hr hlk dJ2_add_24 (Nat.le_of_ble_eq_true rfl) (Nat.le_of_ble_eq_true rfl) rfl ⟨_, rfl, ⟨rfl, hp_20.back o7⟩⟩
theorem ok_J2_size : yJ2_size.cls = "java/util/ArrayList" ∧ yJ2_size.cls ≠ "java/lang/invoke/MethodHandle" ∧ yJ2_size.cls ≠ "java/lang/invoke/VarHandle" ∧ (parseMethodDescriptor yJ2_size.desc).map (fun d => d.parameters.length) = some 0 := by decide +kernel
set_option maxHeartbeats 4000000 in
set_option maxRecDepth 100000 in
theorem met_J2_size {l : Launch} {D : va_G} {b0 n : Nat} {h : GH} {a arr sz : Nat} {m : Int32} (hA : h a = gO 7 [.int m, .ref arr, .int (nI sz)]) : gMet l yJ2_size cJ2_size 1 ((some .int)) 0 0 0 0 D b0 h n [.ref a] (pI (fun r' h' n' => nI sz = r' ∧ h = h' ∧ n = n')) := by
  refine gMet.of (lv := [(0, _)]) (by decide) (Nat.le_of_ble_eq_true rfl) rfl ?_
  intro p_ e_ U0 m_ args_ below_ meth_ co_ C hr hlk hnm
  refine g_aload_n C dJ2_size_0 rfl 0 rfl ?_
  refine g_get C in_J2 hA rfl 2 (by decide) q127 (fun _ hx => hx) rfl dJ2_size_1 ?_
  exact g_iret C hr hlk dJ2_size_4 (Nat.le_of_ble_eq_true rfl) (Nat.le_of_ble_eq_true rfl) rfl ⟨_, rfl, ⟨rfl, rfl, rfl⟩⟩
theorem ok_J2_isEmpty : yJ2_isEmpty.cls = "java/util/ArrayList" ∧ yJ2_isEmpty.cls ≠ "java/lang/invoke/MethodHandle" ∧ yJ2_isEmpty.cls ≠ "java/lang/invoke/VarHandle" ∧ (parseMethodDescriptor yJ2_isEmpty.desc).map (fun d => d.parameters.length) = some 0 := by decide +kernel
set_option maxHeartbeats 4000000 in
set_option maxRecDepth 100000 in
theorem met_J2_isEmpty {l : Launch} {D : va_G} {b0 n : Nat} {h : GH} {a arr sz : Nat} {m : Int32} (hA : h a = gO 7 [.int m, .ref arr, .int (nI sz)]) (hs : sz < 2 ^ 31) : gMet l yJ2_isEmpty cJ2_isEmpty 1 ((some .boolean)) 0 0 0 0 D b0 h n [.ref a] (pI (fun r' h' n' => bI (decide (sz = 0)) = r' ∧ h = h' ∧ n = n')) := by
  refine gMet.of (lv := [(0, _)]) (by decide) (Nat.le_of_ble_eq_true rfl) rfl ?_
  intro p_ e_ U0 m_ args_ below_ meth_ co_ C hr hlk hnm
  refine g_aload_n C dJ2_isEmpty_0 rfl 0 rfl ?_
  refine g_get C in_J2 hA rfl 2 (by decide) q127 (fun _ hx => hx) rfl dJ2_isEmpty_1 ?_
  refine g_topi (y := nI (sz)) rfl ?_
  refine g_if_neN (tgt := 11) C dJ2_isEmpty_4 (by decide) (by omega) (fun c_4 => ?_) (fun c_4 => ?_)
  · refine g_iconst C dJ2_isEmpty_11 kc_0 ?_
    exact g_iret C hr hlk dJ2_isEmpty_12 (Nat.le_of_ble_eq_true rfl) (Nat.le_of_ble_eq_true rfl) rfl ⟨_, rfl, ⟨by first | exact (bI_t (decide_eq_true (by omega))).symm | exact (bI_f (decide_eq_false (by omega))).symm, rfl, rfl⟩⟩
  · refine g_iconst C dJ2_isEmpty_7 kc_1 ?_
    refine g_goto (tgt := 12) C dJ2_isEmpty_8 (by decide) ?_
    exact g_iret C hr hlk dJ2_isEmpty_12 (Nat.le_of_ble_eq_true rfl) (Nat.le_of_ble_eq_true rfl) rfl ⟨_, rfl, ⟨by first | exact (bI_t (decide_eq_true (by omega))).symm | exact (bI_f (decide_eq_false (by omega))).symm, rfl, rfl⟩⟩
theorem ok_J2_elementData : yJ2_elementData.cls = "java/util/ArrayList" ∧ yJ2_elementData.cls ≠ "java/lang/invoke/MethodHandle" ∧ yJ2_elementData.cls ≠ "java/lang/invoke/VarHandle" ∧ (parseMethodDescriptor yJ2_elementData.desc).map (fun d => d.parameters.length) = some 1 := by decide +kernel
set_option maxHeartbeats 4000000 in
set_option maxRecDepth 100000 in
theorem met_J2_elementData {l : Launch} {D : va_G} {b0 n : Nat} {h : GH} {a arr cap sz : Nat} {m : Int32} {F : Nat → Option Nat} {i x : Nat} (hA : h a = gO 7 [.int m, .ref arr, .int (nI sz)]) (hR : h arr = gP D 102 cap F) (hi : i < sz) (hs : sz ≤ cap) (hc : cap ≤ 110) (hx : F i = some x) : gMet l yJ2_elementData cJ2_elementData 2 ((some (.object "java/lang/Object"))) 0 0 0 0 D b0 h n [.ref a, .int (nI i)] (pR (fun r' h' n' => x = r' ∧ h = h' ∧ n = n')) := by
  refine gMet.of (lv := [(0, _), (1, _)]) (by decide) (Nat.le_of_ble_eq_true rfl) rfl ?_
  intro p_ e_ U0 m_ args_ below_ meth_ co_ C hr hlk hnm
  refine g_aload_n C dJ2_elementData_0 rfl 0 rfl ?_
  refine g_get C in_J2 hA rfl 1 (by decide) q124 (fun _ hx => hx) rfl dJ2_elementData_1 ?_
  refine g_iload_n C dJ2_elementData_4 rfl 1 rfl ?_
  refine g_aald (t0 := 2) (v := .ref x) C hR rfl rfl (by omega) (by omega) (by rw [hx]; rfl) dJ2_elementData_5 ?_
  exact g_aret C hr hlk dJ2_elementData_6 (Or.inl ⟨_, rfl⟩) (Or.inr ⟨_, rfl⟩) (Nat.le_of_ble_eq_true rfl) (Nat.le_of_ble_eq_true rfl) ⟨_, rfl, ⟨rfl, rfl, rfl⟩⟩
theorem ok_J2_get : yJ2_get.cls = "java/util/ArrayList" ∧ yJ2_get.cls ≠ "java/lang/invoke/MethodHandle" ∧ yJ2_get.cls ≠ "java/lang/invoke/VarHandle" ∧ (parseMethodDescriptor yJ2_get.desc).map (fun d => d.parameters.length) = some 1 := by decide +kernel
set_option maxHeartbeats 4000000 in
set_option maxRecDepth 100000 in
theorem met_J2_get {l : Launch} {D : va_G} {b0 n : Nat} {h : GH} {a arr cap sz : Nat} {m : Int32} {F : Nat → Option Nat} {i x : Nat} (hA : h a = gO 7 [.int m, .ref arr, .int (nI sz)]) (hR : h arr = gP D 102 cap F) (hi : i < sz) (hs : sz ≤ cap) (hc : cap ≤ 110) (hx : F i = some x) : gMet l yJ2_get cJ2_get 2 ((some (.object "java/lang/Object"))) 2 43 0 0 D b0 h n [.ref a, .int (nI i)] (pR (fun r' h' n' => x = r' ∧ h = h' ∧ n = n')) := by
  refine gMet.of (lv := [(0, _), (1, _)]) (by decide) (Nat.le_of_ble_eq_true rfl) rfl ?_
  intro p_ e_ U0 m_ args_ below_ meth_ co_ C hr hlk hnm
  refine g_iload_n C dJ2_get_0 rfl 1 rfl ?_
  refine g_aload_n C dJ2_get_1 rfl 0 rfl ?_
  refine g_get C in_J2 hA rfl 2 (by decide) q127 (fun _ hx => hx) rfl dJ2_get_2 ?_
  refine g_topi (y := nI (sz)) rfl ?_
  refine g_S2I C (met_J12_checkIndex (by omega) (by omega)) (va_cwS 2 C.2.2.2.2.1 (lw_S q490 q491 q81 q492) rfl rfl rfl ok_J12_checkIndex ⟨(Nat.le_of_ble_eq_true rfl), (Nat.le_of_ble_eq_true rfl)⟩) (Nat.le_of_ble_eq_true rfl) dJ2_get_5 ⟨(Nat.le_of_ble_eq_true rfl), (Nat.le_of_ble_eq_true rfl)⟩ (fun r_5 h_5 n_5 hp_5 hn_5 => ?_)
  obtain ⟨rfl, rfl, rfl⟩ := hp_5
  refine g_pop C dJ2_get_8 rfl ?_
  refine g_aload_n C dJ2_get_9 rfl 0 rfl ?_
  refine g_iload_n C dJ2_get_10 rfl 1 rfl ?_
  refine g_V1R C (met_J2_elementData hA hR hi hs hc hx) (cwV 1 C.2.2.2.2.1 (lw_V q496 q497 q498 q67 q499) rfl rfl rfl ok_J2_elementData ⟨(Nat.le_of_ble_eq_true rfl), (Nat.le_of_ble_eq_true rfl)⟩) hA rfl (Nat.le_of_ble_eq_true rfl) dJ2_get_11 ⟨(Nat.le_of_ble_eq_true rfl), (Nat.le_of_ble_eq_true rfl)⟩ (fun r_11 h_11 n_11 hp_11 hn_11 => ?_)
  obtain ⟨rfl, rfl, rfl⟩ := hp_11
  exact g_aret C hr hlk dJ2_get_14 (Or.inl ⟨_, rfl⟩) (Or.inr ⟨_, rfl⟩) (Nat.le_of_ble_eq_true rfl) (Nat.le_of_ble_eq_true rfl) ⟨_, rfl, ⟨rfl, rfl, rfl⟩⟩
theorem ok_J11_init : yJ11_init.cls ≠ "java/lang/invoke/MethodHandle" ∧ yJ11_init.cls ≠ "java/lang/invoke/VarHandle" ∧ (parseMethodDescriptor yJ11_init.desc).map (fun d => d.parameters.length) = some 1 := by decide +kernel
set_option maxHeartbeats 4000000 in
set_option maxRecDepth 100000 in
theorem met_J11_init {l : Launch} {D : va_G} {b0 n : Nat} {h : GH} {t a arr : Nat} {m c0 c1 c2 z : Int32} {v0 : Value} (hT : h t = gO 11 [.int c0, .int c1, .int c2, v0]) (ht : b0 ≤ t) (hA : h a = gO 7 [.int m, .ref arr, .int z]) : gMet l yJ11_init cJ11_init 2 (none) 1 20 0 0 D b0 h n [.ref t, .ref a] (pV (fun h' n' => (va_up h t (gO 11 [.int c0, .int (-1), .int m, .ref a])) = h' ∧ n = n')) := by
  refine gMet.of (lv := [(0, _), (1, _)]) (by decide) (Nat.le_of_ble_eq_true rfl) rfl ?_
  intro p_ e_ U0 m_ args_ below_ meth_ co_ C hr hlk hnm
  have hne : a ≠ t := fun e => by rw [e, hT] at hA; cases hA
  refine g_aload_n C dJ11_init_0 rfl 0 rfl ?_
  refine g_aload_n C dJ11_init_1 rfl 1 rfl ?_
  refine g_putF C in_J11 tyJ11 tyJ11_ok nmJ11 hT ht rfl 3 (by decide) q440 (fun _ hx => hx) rfl hnm rfl rfl rfl rfl (Nat.le_of_ble_eq_true rfl) rfl dJ11_init_2 ?_
  refine g_aload_n C dJ11_init_5 rfl 0 rfl ?_
  refine g_objInit C q436 dJ11_init_6 (Nat.le_of_ble_eq_true rfl) (Nat.le_of_ble_eq_true rfl) ?_
  refine g_aload_n C dJ11_init_9 rfl 0 rfl ?_
  refine g_iconst C dJ11_init_10 kc_m1 ?_
  refine g_put C in_J11 tyJ11 tyJ11_ok nmJ11 (va_up_self _ _ _) ht rfl 1 (by decide) q438 (fun _ hx => hx) rfl rfl rfl rfl (Nat.le_of_ble_eq_true rfl) (va_uu _ _ _ _) dJ11_init_11 ?_
  refine g_aload_n C dJ11_init_14 rfl 0 rfl ?_
  refine g_aload_n C dJ11_init_15 rfl 0 rfl ?_
  refine g_get C in_J11 (va_up_self _ _ _) rfl 3 (by decide) q440 (fun _ hx => hx) rfl dJ11_init_16 ?_
  refine g_get C in_J2 ((va_up_ne _ _ hne).trans hA) rfl 0 (by decide) q129 (u_same (C.2.2.2.2.1 _ q130)) rfl dJ11_init_19 ?_
  refine g_put C in_J11 tyJ11 tyJ11_ok nmJ11 (va_up_self _ _ _) ht rfl 2 (by decide) q439 (fun _ hx => hx) rfl rfl rfl rfl (Nat.le_of_ble_eq_true rfl) (va_uu _ _ _ _) dJ11_init_22 ?_
  exact g_vret C hr hlk dJ11_init_25 (Nat.le_of_ble_eq_true rfl) (Nat.le_of_ble_eq_true rfl) ⟨rfl, rfl, rfl⟩
theorem ok_J2_iterator : yJ2_iterator.cls = "java/util/ArrayList" ∧ yJ2_iterator.cls ≠ "java/lang/invoke/MethodHandle" ∧ yJ2_iterator.cls ≠ "java/lang/invoke/VarHandle" ∧ (parseMethodDescriptor yJ2_iterator.desc).map (fun d => d.parameters.length) = some 0 := by decide +kernel
set_option maxHeartbeats 4000000 in
set_option maxRecDepth 100000 in
theorem met_J2_iterator {l : Launch} {D : va_G} {b0 n : Nat} {h : GH} {a arr : Nat} {m z : Int32} (hA : h a = gO 7 [.int m, .ref arr, .int z]) : gMet l yJ2_iterator cJ2_iterator 1 ((some (.object "java/util/Iterator"))) 2 41 1 4 D b0 h n [.ref a] (pR (fun r' h' n' => n = r' ∧ (va_up h n (gO 11 [.int (nI 0), .int (-1), .int m, .ref a])) = h' ∧ (n + 1) = n')) := by
  refine gMet.of (lv := [(0, _)]) (by decide) (Nat.le_of_ble_eq_true rfl) rfl ?_
  intro p_ e_ U0 m_ args_ below_ meth_ co_ C hr hlk hnm
  refine g_lt hA (fun hla => ?_)
  refine g_size C (fun hb0 => ?_)
  refine g_new (ci := 11) (fs := [.int 0, .int 0, .int 0, .null]) C in_J11 tyJ11 tyJ11_ok q431 q432 q80 rfl born_J11 (Nat.le_of_ble_eq_true rfl) (Nat.le_of_ble_eq_true rfl) dJ2_iterator_0 ?_
  refine g_dup C dJ2_iterator_3 rfl ?_
  refine g_aload_n C dJ2_iterator_4 rfl 0 rfl ?_
  refine g_I1V C (met_J11_init (va_up_self _ _ _) hb0 ((va_up_ne _ _ (by omega)).trans hA)) (cwI 1 C.2.2.2.2.1 (lw_meth q435) rfl rfl rfl (C.2.2.2.2.1 _ q80) (C.2.2.2.2.1 _ q433) (C.2.2.2.2.1 _ q434) rfl ok_J11_init ⟨(Nat.le_of_ble_eq_true rfl), (Nat.le_of_ble_eq_true rfl)⟩) (Nat.le_of_ble_eq_true rfl) dJ2_iterator_5 ⟨(Nat.le_of_ble_eq_true rfl), (Nat.le_of_ble_eq_true rfl)⟩ (fun h_5 n_5 hp_5 hn_5 => ?_)
  obtain ⟨rfl, rfl⟩ := hp_5
  exact g_aret C hr hlk dJ2_iterator_8 (Or.inl ⟨_, rfl⟩) (Or.inr ⟨_, rfl⟩) (Nat.le_of_ble_eq_true rfl) (Nat.le_of_ble_eq_true rfl) ⟨_, rfl, ⟨rfl, (va_uu _ _ _ _).symm, rfl⟩⟩
theorem ok_J11_hasNext : yJ11_hasNext.cls = "java/util/ArrayList$Itr" ∧ yJ11_hasNext.cls ≠ "java/lang/invoke/MethodHandle" ∧ yJ11_hasNext.cls ≠ "java/lang/invoke/VarHandle" ∧ (parseMethodDescriptor yJ11_hasNext.desc).map (fun d => d.parameters.length) = some 0 := by decide +kernel
set_option maxHeartbeats 4000000 in
set_option maxRecDepth 100000 in
theorem met_J11_hasNext {l : Launch} {D : va_G} {b0 n : Nat} {h : GH} {t a arr sz i : Nat} {m m2 lr : Int32} (hT : h t = gO 11 [.int (nI i), .int lr, .int m2, .ref a]) (hA : h a = gO 7 [.int m, .ref arr, .int (nI sz)]) (hi : i ≤ sz) (hs : sz < 2 ^ 31) : gMet l yJ11_hasNext cJ11_hasNext 1 ((some .boolean)) 0 0 0 0 D b0 h n [.ref t] (pI (fun r' h' n' => bI (decide (i < sz)) = r' ∧ h = h' ∧ n = n')) := by
  refine gMet.of (lv := [(0, _)]) (by decide) (Nat.le_of_ble_eq_true rfl) rfl ?_
  intro p_ e_ U0 m_ args_ below_ meth_ co_ C hr hlk hnm
  refine g_aload_n C dJ11_hasNext_0 rfl 0 rfl ?_
  refine g_get C in_J11 hT rfl 0 (by decide) q437 (fun _ hx => hx) rfl dJ11_hasNext_1 ?_
  refine g_aload_n C dJ11_hasNext_4 rfl 0 rfl ?_
  refine g_get C in_J11 hT rfl 3 (by decide) q440 (fun _ hx => hx) rfl dJ11_hasNext_5 ?_
  refine g_getN C in_J2 hA rfl 2 (by decide) q126 (fun _ hx => hx) rfl dJ11_hasNext_8 ?_
  refine g_icmp_eqN (tgt := 18) C dJ11_hasNext_11 (by decide) (by omega) (by omega) (fun c_11 => ?_) (fun c_11 => ?_)
  · refine g_iconst C dJ11_hasNext_18 kc_0 ?_
    exact g_iret C hr hlk dJ11_hasNext_19 (Nat.le_of_ble_eq_true rfl) (Nat.le_of_ble_eq_true rfl) rfl ⟨_, rfl, ⟨by first | exact (bI_t (decide_eq_true (by omega))).symm | exact (bI_f (decide_eq_false (by omega))).symm, rfl, rfl⟩⟩
  · refine g_iconst C dJ11_hasNext_14 kc_1 ?_
    refine g_goto (tgt := 19) C dJ11_hasNext_15 (by decide) ?_
    exact g_iret C hr hlk dJ11_hasNext_19 (Nat.le_of_ble_eq_true rfl) (Nat.le_of_ble_eq_true rfl) rfl ⟨_, rfl, ⟨by first | exact (bI_t (decide_eq_true (by omega))).symm | exact (bI_f (decide_eq_false (by omega))).symm, rfl, rfl⟩⟩
theorem ok_J11_checkForComodification : yJ11_checkForComodification.cls = "java/util/ArrayList$Itr" ∧ yJ11_checkForComodification.cls ≠ "java/lang/invoke/MethodHandle" ∧ yJ11_checkForComodification.cls ≠ "java/lang/invoke/VarHandle" ∧ (parseMethodDescriptor yJ11_checkForComodification.desc).map (fun d => d.parameters.length) = some 0 := by decide +kernel
set_option maxHeartbeats 4000000 in
set_option maxRecDepth 100000 in
theorem met_J11_checkForComodification {l : Launch} {D : va_G} {b0 n : Nat} {h : GH} {t a arr : Nat} {m c0 c1 z : Int32} (hT : h t = gO 11 [.int c0, .int c1, .int m, .ref a]) (hA : h a = gO 7 [.int m, .ref arr, .int z]) : gMet l yJ11_checkForComodification cJ11_checkForComodification 1 (none) 0 0 0 0 D b0 h n [.ref t] (pV (fun h' n' => h = h' ∧ n = n')) := by
  refine gMet.of (lv := [(0, _)]) (by decide) (Nat.le_of_ble_eq_true rfl) rfl ?_
  intro p_ e_ U0 m_ args_ below_ meth_ co_ C hr hlk hnm
  refine g_aload_n C dJ11_checkForComodification_0 rfl 0 rfl ?_
  refine g_get C in_J11 hT rfl 3 (by decide) q440 (fun _ hx => hx) rfl dJ11_checkForComodification_1 ?_
  refine g_get C in_J2 hA rfl 0 (by decide) q129 (u_same (C.2.2.2.2.1 _ q130)) rfl dJ11_checkForComodification_4 ?_
  refine g_aload_n C dJ11_checkForComodification_7 rfl 0 rfl ?_
  refine g_get C in_J11 hT rfl 2 (by decide) q439 (fun _ hx => hx) rfl dJ11_checkForComodification_8 ?_
  refine g_icmp_eq (tgt := 22) C dJ11_checkForComodification_11 (by decide) (fun c_11 => ?_) (fun c_11 => absurd rfl c_11)
  exact g_vret C hr hlk dJ11_checkForComodification_22 (Nat.le_of_ble_eq_true rfl) (Nat.le_of_ble_eq_true rfl) ⟨rfl, rfl, rfl⟩
theorem ok_J11_next : yJ11_next.cls = "java/util/ArrayList$Itr" ∧ yJ11_next.cls ≠ "java/lang/invoke/MethodHandle" ∧ yJ11_next.cls ≠ "java/lang/invoke/VarHandle" ∧ (parseMethodDescriptor yJ11_next.desc).map (fun d => d.parameters.length) = some 0 := by decide +kernel
set_option maxHeartbeats 4000000 in
set_option maxRecDepth 100000 in
theorem met_J11_next {l : Launch} {D : va_G} {b0 n : Nat} {h : GH} {t x i : Nat} {lr : Int32} {a arr cap sz : Nat} {m : Int32} {F : Nat → Option Nat} (hT : h t = gO 11 [.int (nI i), .int lr, .int m, .ref a]) (ht : b0 ≤ t) (hA : h a = gO 7 [.int m, .ref arr, .int (nI sz)]) (hR : h arr = gP D 102 cap F) (hi : i < sz) (hs : sz ≤ cap) (hc : cap ≤ 110) (hx : F i = some x) : gMet l yJ11_next cJ11_next 3 ((some (.object "java/lang/Object"))) 1 20 0 0 D b0 h n [.ref t] (pR (fun r' h' n' => x = r' ∧ (va_up h t (gO 11 [.int (nI (i + 1)), .int (nI i), .int m, .ref a])) = h' ∧ n = n')) := by
  refine gMet.of (lv := [(0, _)]) (by decide) (Nat.le_of_ble_eq_true rfl) rfl ?_
  intro p_ e_ U0 m_ args_ below_ meth_ co_ C hr hlk hnm
  have hne : a ≠ t := fun e => by rw [e, hT] at hA; cases hA
  have hne2 : arr ≠ t := fun e => by rw [e, hT] at hR; cases hR
  refine g_aload_n C dJ11_next_0 rfl 0 rfl ?_
  refine g_V0V C (met_J11_checkForComodification hT hA) (cwV 0 C.2.2.2.2.1 (lw_V q469 q470 q471 q80 q472) rfl rfl rfl ok_J11_checkForComodification ⟨(Nat.le_of_ble_eq_true rfl), (Nat.le_of_ble_eq_true rfl)⟩) hT rfl (Nat.le_of_ble_eq_true rfl) dJ11_next_1 ⟨(Nat.le_of_ble_eq_true rfl), (Nat.le_of_ble_eq_true rfl)⟩ (fun h_1 n_1 hp_1 hn_1 => ?_)
  obtain ⟨rfl, rfl⟩ := hp_1
  refine g_aload_n C dJ11_next_4 rfl 0 rfl ?_
  refine g_get C in_J11 hT rfl 0 (by decide) q437 (fun _ hx => hx) rfl dJ11_next_5 ?_
  refine g_istore_n (lv' := [(1, _), (0, _)]) C dJ11_next_8 rfl (by decide) rfl ?_
  refine g_iload_n C dJ11_next_9 rfl 0 rfl ?_
  refine g_aload_n C dJ11_next_10 rfl 1 rfl ?_
  refine g_get C in_J11 hT rfl 3 (by decide) q440 (fun _ hx => hx) rfl dJ11_next_11 ?_
  refine g_getN C in_J2 hA rfl 2 (by decide) q126 (fun _ hx => hx) rfl dJ11_next_14 ?_
  refine g_icmp_ltN (tgt := 28) C dJ11_next_17 (by decide) (by omega) (by omega) (fun c_17 => ?_) (fun c_17 => absurd c_17 (by omega))
  refine g_aload_n C dJ11_next_28 rfl 1 rfl ?_
  refine g_get C in_J11 hT rfl 3 (by decide) q440 (fun _ hx => hx) rfl dJ11_next_29 ?_
  refine g_get C in_J2 hA rfl 1 (by decide) q125 (fun _ hx => hx) rfl dJ11_next_32 ?_
  refine g_astore_n (lv' := [(2, _), (1, _), (0, _)]) C dJ11_next_35 rfl (by decide) rfl ?_
  refine g_iload_n C dJ11_next_36 rfl 1 rfl ?_
  refine g_aload_n C dJ11_next_37 rfl 0 rfl ?_
  refine g_alen (t0 := 2) (v := nI cap) C hR rfl rfl dJ11_next_38 ?_
  refine g_icmp_ltN (tgt := 50) C dJ11_next_39 (by decide) (by omega) (by omega) (fun c_39 => ?_) (fun c_39 => absurd c_39 (by omega))
  refine g_aload_n C dJ11_next_50 rfl 2 rfl ?_
  refine g_iload_n C dJ11_next_51 rfl 1 rfl ?_
  refine g_iconst C dJ11_next_52 kc_1 ?_
  refine g_iaddN C dJ11_next_53 ?_
  refine g_put C in_J11 tyJ11 tyJ11_ok nmJ11 hT ht rfl 0 (by decide) q437 (fun _ hx => hx) rfl rfl rfl rfl (Nat.le_of_ble_eq_true rfl) rfl dJ11_next_54 ?_
  refine g_aload_n C dJ11_next_57 rfl 0 rfl ?_
  refine g_aload_n C dJ11_next_58 rfl 2 rfl ?_
  refine g_iload_n C dJ11_next_59 rfl 1 rfl ?_
  refine g_dup_x1 C dJ11_next_60 rfl rfl ?_
  refine g_put C in_J11 tyJ11 tyJ11_ok nmJ11 (va_up_self _ _ _) ht rfl 1 (by decide) q438 (fun _ hx => hx) rfl rfl rfl rfl (Nat.le_of_ble_eq_true rfl) (va_uu _ _ _ _) dJ11_next_61 ?_
  refine g_aald (t0 := 2) (v := .ref x) C ((va_up_ne _ _ hne2).trans hR) rfl rfl (by omega) (by omega) (by rw [hx]; rfl) dJ11_next_64 ?_
  exact g_aret C hr hlk dJ11_next_65 (Or.inl ⟨_, rfl⟩) (Or.inr ⟨_, rfl⟩) (Nat.le_of_ble_eq_true rfl) (Nat.le_of_ble_eq_true rfl) ⟨_, rfl, ⟨rfl, rfl, rfl⟩⟩
theorem ok_J2_clear : yJ2_clear.cls = "java/util/ArrayList" ∧ yJ2_clear.cls ≠ "java/lang/invoke/MethodHandle" ∧ yJ2_clear.cls ≠ "java/lang/invoke/VarHandle" ∧ (parseMethodDescriptor yJ2_clear.desc).map (fun d => d.parameters.length) = some 0 := by decide +kernel
set_option maxHeartbeats 4000000 in
set_option maxRecDepth 100000 in
theorem met_J2_clear {l : Launch} {D : va_G} {b0 n : Nat} {h : GH} {a arr : Nat} {m : Int32} (hA : h a = gO 7 [.int m, .ref arr, .int (nI 0)]) (ha : b0 ≤ a) : gMet l yJ2_clear cJ2_clear 4 (none) 0 0 0 0 D b0 h n [.ref a] (pV (fun h' n' => (va_up h a (gO 7 [.int (m + 1), .ref arr, .int (nI 0)])) = h' ∧ n = n')) := by
  refine gMet.of (lv := [(0, _)]) (by decide) (Nat.le_of_ble_eq_true rfl) rfl ?_
  intro p_ e_ U0 m_ args_ below_ meth_ co_ C hr hlk hnm
  refine g_aload_n C dJ2_clear_0 rfl 0 rfl ?_
  refine g_dup C dJ2_clear_1 rfl ?_
  refine g_get C in_J2 hA rfl 0 (by decide) q131 (u_same (C.2.2.2.2.1 _ q130)) rfl dJ2_clear_2 ?_
  refine g_iconst C dJ2_clear_5 kc_1 ?_
  refine g_iadd C dJ2_clear_6 ?_
  refine g_topi (y := m + 1) rfl ?_
  refine g_put C in_J2 tyJ2 tyJ2_ok nmJ2 hA ha rfl 0 (by decide) q131 (u_same (C.2.2.2.2.1 _ q130)) rfl rfl rfl rfl (Nat.le_of_ble_eq_true rfl) rfl dJ2_clear_7 ?_
  refine g_aload_n C dJ2_clear_10 rfl 0 rfl ?_
  refine g_get C in_J2 (va_up_self _ _ _) rfl 1 (by decide) q124 (fun _ hx => hx) rfl dJ2_clear_11 ?_
  refine g_astore_n (lv' := [(1, _), (0, _)]) C dJ2_clear_14 rfl (by decide) rfl ?_
  refine g_aload_n C dJ2_clear_15 rfl 1 rfl ?_
  refine g_get C in_J2 (va_up_self _ _ _) rfl 2 (by decide) q127 (fun _ hx => hx) rfl dJ2_clear_16 ?_
  refine g_istore_n (lv' := [(2, _), (1, _), (0, _)]) C dJ2_clear_19 rfl (by decide) rfl ?_
  refine g_aload_n C dJ2_clear_20 rfl 2 rfl ?_
  refine g_iconst C dJ2_clear_21 kc_0 ?_
  refine g_dup_x1 C dJ2_clear_22 rfl rfl ?_
  refine g_put C in_J2 tyJ2 tyJ2_ok nmJ2 (va_up_self _ _ _) ha rfl 2 (by decide) q127 (fun _ hx => hx) rfl rfl rfl rfl (Nat.le_of_ble_eq_true rfl) (va_uu _ _ _ _) dJ2_clear_23 ?_
  refine g_istore_n (lv' := [(3, _), (2, _), (1, _), (0, _)]) C dJ2_clear_26 rfl (by decide) rfl ?_
  refine g_iload_n C dJ2_clear_27 rfl 0 rfl ?_
  refine g_iload_n C dJ2_clear_28 rfl 1 rfl ?_
  refine g_icmp_geN (tgt := 42) C dJ2_clear_29 (by decide) (by omega) (by omega) (fun c_29 => ?_) (fun c_29 => absurd c_29 (by omega))
  exact g_vret C hr hlk dJ2_clear_42 (Nat.le_of_ble_eq_true rfl) (Nat.le_of_ble_eq_true rfl) ⟨rfl, rfl, rfl⟩
theorem ok_J0_init : yJ0_init.cls ≠ "java/lang/invoke/MethodHandle" ∧ yJ0_init.cls ≠ "java/lang/invoke/VarHandle" ∧ (parseMethodDescriptor yJ0_init.desc).map (fun d => d.parameters.length) = some 0 := by decide +kernel
set_option maxHeartbeats 4000000 in
set_option maxRecDepth 100000 in
theorem met_J0_init {l : Launch} {D : va_G} {b0 n : Nat} {h : GH} {a : Nat}  : gMet l yJ0_init cJ0_init 1 (none) 1 20 0 0 D b0 h n [.ref a] (pV (fun h' n' => h = h' ∧ n = n')) := by
  refine gMet.of (lv := [(0, _)]) (by decide) (Nat.le_of_ble_eq_true rfl) rfl ?_
  intro p_ e_ U0 m_ args_ below_ meth_ co_ C hr hlk hnm
  refine g_aload_n C dJ0_init_0 rfl 0 rfl ?_
  refine g_objInit C q121 dJ0_init_1 (Nat.le_of_ble_eq_true rfl) (Nat.le_of_ble_eq_true rfl) ?_
  exact g_vret C hr hlk dJ0_init_4 (Nat.le_of_ble_eq_true rfl) (Nat.le_of_ble_eq_true rfl) ⟨rfl, rfl, rfl⟩
theorem ok_J1_init : yJ1_init.cls ≠ "java/lang/invoke/MethodHandle" ∧ yJ1_init.cls ≠ "java/lang/invoke/VarHandle" ∧ (parseMethodDescriptor yJ1_init.desc).map (fun d => d.parameters.length) = some 0 := by decide +kernel
set_option maxHeartbeats 4000000 in
set_option maxRecDepth 100000 in
theorem met_J1_init {l : Launch} {D : va_G} {b0 n : Nat} {h : GH} {a : Nat} {m0 : Int32} {v1 v2 : Value} (hA : h a = gO 7 [.int m0, v1, v2]) (ha : b0 ≤ a) : gMet l yJ1_init cJ1_init 1 (none) 2 40 0 0 D b0 h n [.ref a] (pV (fun h' n' => (va_up h a (gO 7 [.int (nI 0), v1, v2])) = h' ∧ n = n')) := by
  refine gMet.of (lv := [(0, _)]) (by decide) (Nat.le_of_ble_eq_true rfl) rfl ?_
  intro p_ e_ U0 m_ args_ below_ meth_ co_ C hr hlk hnm
  refine g_aload_n C dJ1_init_0 rfl 0 rfl ?_
  refine g_I0V C (met_J0_init) (cwI 0 C.2.2.2.2.1 (lw_meth q120) rfl rfl rfl (C.2.2.2.2.1 _ q65) (C.2.2.2.2.1 _ q118) (C.2.2.2.2.1 _ q119) rfl ok_J0_init ⟨(Nat.le_of_ble_eq_true rfl), (Nat.le_of_ble_eq_true rfl)⟩) (Nat.le_of_ble_eq_true rfl) dJ1_init_1 ⟨(Nat.le_of_ble_eq_true rfl), (Nat.le_of_ble_eq_true rfl)⟩ (fun h_1 n_1 hp_1 hn_1 => ?_)
  obtain ⟨rfl, rfl⟩ := hp_1
  refine g_aload_n C dJ1_init_4 rfl 0 rfl ?_
  refine g_iconst C dJ1_init_5 kc_0 ?_
  refine g_put C in_J2 tyJ2 tyJ2_ok nmJ2 hA ha rfl 0 (by decide) q128 (fun _ hx => hx) rfl rfl rfl rfl (Nat.le_of_ble_eq_true rfl) rfl dJ1_init_6 ?_
  exact g_vret C hr hlk dJ1_init_9 (Nat.le_of_ble_eq_true rfl) (Nat.le_of_ble_eq_true rfl) ⟨rfl, rfl, rfl⟩
theorem ok_J2_init : yJ2_init.cls ≠ "java/lang/invoke/MethodHandle" ∧ yJ2_init.cls ≠ "java/lang/invoke/VarHandle" ∧ (parseMethodDescriptor yJ2_init.desc).map (fun d => d.parameters.length) = some 0 := by decide +kernel
set_option maxHeartbeats 4000000 in
set_option maxRecDepth 100000 in
theorem met_J2_init {l : Launch} {D : va_G} {b0 n : Nat} {h : GH} {a : Nat} {m0 : Int32} {v1 v2 : Value} (hA : h a = gO 7 [.int m0, v1, v2]) (ha : b0 ≤ a) : gMet l yJ2_init cJ2_init 1 (none) 3 60 0 0 D b0 h n [.ref a] (pV (fun h' n' => (va_up h a (gO 7 [.int (nI 0), .ref (D.1 201), v2])) = h' ∧ n = n')) := by
  refine gMet.of (lv := [(0, _)]) (by decide) (Nat.le_of_ble_eq_true rfl) rfl ?_
  intro p_ e_ U0 m_ args_ below_ meth_ co_ C hr hlk hnm
  refine g_aload_n C dJ2_init_0 rfl 0 rfl ?_
  refine g_I0V C (met_J1_init hA ha) (cwI 0 C.2.2.2.2.1 (lw_meth q117) rfl rfl rfl (C.2.2.2.2.1 _ q66) (C.2.2.2.2.1 _ q115) (C.2.2.2.2.1 _ q116) rfl ok_J1_init ⟨(Nat.le_of_ble_eq_true rfl), (Nat.le_of_ble_eq_true rfl)⟩) (Nat.le_of_ble_eq_true rfl) dJ2_init_1 ⟨(Nat.le_of_ble_eq_true rfl), (Nat.le_of_ble_eq_true rfl)⟩ (fun h_1 n_1 hp_1 hn_1 => ?_)
  obtain ⟨rfl, rfl⟩ := hp_1
  refine g_aload_n C dJ2_init_4 rfl 0 rfl ?_
  refine g_gets C C.2.2.2.2.2.2.2.1 q122 (fun _ hx => hx) dJ2_init_5 ?_
  refine g_put C in_J2 tyJ2 tyJ2_ok nmJ2 (va_up_self _ _ _) ha rfl 1 (by decide) q124 (fun _ hx => hx) rfl rfl rfl rfl (Nat.le_of_ble_eq_true rfl) (va_uu _ _ _ _) dJ2_init_8 ?_
  exact g_vret C hr hlk dJ2_init_11 (Nat.le_of_ble_eq_true rfl) (Nat.le_of_ble_eq_true rfl) ⟨rfl, rfl, rfl⟩
theorem ok_J21_equals : yJ21_equals.cls = "java/lang/Object" ∧ yJ21_equals.cls ≠ "java/lang/invoke/MethodHandle" ∧ yJ21_equals.cls ≠ "java/lang/invoke/VarHandle" ∧ (parseMethodDescriptor yJ21_equals.desc).map (fun d => d.parameters.length) = some 1 := by decide +kernel
set_option maxHeartbeats 4000000 in
set_option maxRecDepth 100000 in
theorem met_J21_equals {l : Launch} {D : va_G} {b0 n : Nat} {h : GH} {x y : Nat}  : gMet l yJ21_equals cJ21_equals 2 ((some .boolean)) 0 0 0 0 D b0 h n [.ref x, .ref y] (pI (fun r' h' n' => bI (decide (x = y)) = r' ∧ h = h' ∧ n = n')) := by
  refine gMet.ofF (lv := [(0, _), (1, _)]) (by decide +kernel) (Nat.le_of_ble_eq_true rfl) rfl ?_
  intro p_ e_ U0 m_ args_ below_ meth_ co_ C hr hlk hnm
  refine g_aload_n C dJ21_equals_0 rfl 0 rfl ?_
  refine g_aload_n C dJ21_equals_1 rfl 1 rfl ?_
  refine g_acmp_ne (rx := some x) (ry := some y) (tgt := 9) C dJ21_equals_2 (by decide) (fun c_2 => ?_) (fun c_2 => ?_)
  · refine g_iconst C dJ21_equals_9 kc_0 ?_
    exact g_iret C hr hlk dJ21_equals_10 (Nat.le_of_ble_eq_true rfl) (Nat.le_of_ble_eq_true rfl) rfl ⟨_, rfl, ⟨by first | exact (bI_t (decide_eq_true (Option.some.inj c_2))).symm | exact (bI_f (decide_eq_false (fun e => c_2 (congrArg some e)))).symm, rfl, rfl⟩⟩
  · refine g_iconst C dJ21_equals_5 kc_1 ?_
    refine g_goto (tgt := 10) C dJ21_equals_6 (by decide) ?_
    exact g_iret C hr hlk dJ21_equals_10 (Nat.le_of_ble_eq_true rfl) (Nat.le_of_ble_eq_true rfl) rfl ⟨_, rfl, ⟨by first | exact (bI_t (decide_eq_true (Option.some.inj c_2))).symm | exact (bI_f (decide_eq_false (fun e => c_2 (congrArg some e)))).symm, rfl, rfl⟩⟩
