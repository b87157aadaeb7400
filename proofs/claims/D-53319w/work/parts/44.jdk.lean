theorem ok_J13_checkIndex : yJ13_checkIndex.cls ≠ "java/lang/invoke/MethodHandle" ∧ yJ13_checkIndex.cls ≠ "java/lang/invoke/VarHandle" ∧ (parseMethodDescriptor yJ13_checkIndex.desc).map (fun d => d.parameters.length) = some 3 := by decide +kernel
set_option maxHeartbeats 4000000 in
set_option maxRecDepth 100000 in
theorem met_J13_checkIndex_0 {l : Launch} {D : va_G} {b0 n : Nat} {h : GH} {i k : Nat} (hi : i < k) (hk : k < 2 ^ 31) : gMet l yJ13_checkIndex cJ13_checkIndex 3 ((some .int)) 0 0 0 0 D b0 h n [.int (nI i), .int (nI k), .null] (pI (fun r' h' n' => nI i = r' ∧ h = h' ∧ n = n')) := by
  refine gMet.of (lv := [(0, _), (1, _), (2, _)]) (by decide) (Nat.le_of_ble_eq_true rfl) rfl ?_
  intro p_ e_ U0 m_ args_ below_ meth_ co_ C hr hlk hnm
  refine g_iload_n C dJ13_checkIndex_0 rfl 0 rfl ?_
  refine g_if_ltN (tgt := 9) C dJ13_checkIndex_1 (by decide) (by omega) ?_
  refine g_iload_n C dJ13_checkIndex_4 rfl 0 rfl ?_
  refine g_iload_n C dJ13_checkIndex_5 rfl 1 rfl ?_
  refine g_icmp_ltN (tgt := 16) C dJ13_checkIndex_6 (by decide) (by omega) (by omega) (fun c_6 => ?_) (fun c_6 => absurd c_6 (by omega))
  refine g_iload_n C dJ13_checkIndex_16 rfl 0 rfl ?_
  exact g_iret C hr hlk dJ13_checkIndex_17 (Nat.le_of_ble_eq_true rfl) (Nat.le_of_ble_eq_true rfl) rfl ⟨_, rfl, ⟨rfl, rfl, rfl⟩⟩
set_option maxHeartbeats 4000000 in
set_option maxRecDepth 100000 in
theorem met_J13_checkIndex_R {l : Launch} {D : va_G} {b0 n : Nat} {h : GH} {i k : Nat} {t : Nat} (hi : i < k) (hk : k < 2 ^ 31) : gMet l yJ13_checkIndex cJ13_checkIndex 3 ((some .int)) 0 0 0 0 D b0 h n [.int (nI i), .int (nI k), .ref t] (pI (fun r' h' n' => nI i = r' ∧ h = h' ∧ n = n')) := by
  refine gMet.of (lv := [(0, _), (1, _), (2, _)]) (by decide) (Nat.le_of_ble_eq_true rfl) rfl ?_
  intro p_ e_ U0 m_ args_ below_ meth_ co_ C hr hlk hnm
  refine g_iload_n C dJ13_checkIndex_0 rfl 0 rfl ?_
  refine g_if_ltN (tgt := 9) C dJ13_checkIndex_1 (by decide) (by omega) ?_
  refine g_iload_n C dJ13_checkIndex_4 rfl 0 rfl ?_
  refine g_iload_n C dJ13_checkIndex_5 rfl 1 rfl ?_
  refine g_icmp_ltN (tgt := 16) C dJ13_checkIndex_6 (by decide) (by omega) (by omega) (fun c_6 => ?_) (fun c_6 => absurd c_6 (by omega))
  refine g_iload_n C dJ13_checkIndex_16 rfl 0 rfl ?_
  exact g_iret C hr hlk dJ13_checkIndex_17 (Nat.le_of_ble_eq_true rfl) (Nat.le_of_ble_eq_true rfl) rfl ⟨_, rfl, ⟨rfl, rfl, rfl⟩⟩
theorem ok_J12_checkIndex : yJ12_checkIndex.cls ≠ "java/lang/invoke/MethodHandle" ∧ yJ12_checkIndex.cls ≠ "java/lang/invoke/VarHandle" ∧ (parseMethodDescriptor yJ12_checkIndex.desc).map (fun d => d.parameters.length) = some 2 := by decide +kernel
set_option maxHeartbeats 4000000 in
set_option maxRecDepth 100000 in
theorem met_J12_checkIndex {l : Launch} {D : va_G} {b0 n : Nat} {h : GH} {i k : Nat} (hi : i < k) (hk : k < 2 ^ 31) : gMet l yJ12_checkIndex cJ12_checkIndex 2 ((some .int)) 1 22 0 0 D b0 h n [.int (nI i), .int (nI k)] (pI (fun r' h' n' => nI i = r' ∧ h = h' ∧ n = n')) := by
  refine gMet.of (lv := [(0, _), (1, _)]) (by decide) (Nat.le_of_ble_eq_true rfl) rfl ?_
  intro p_ e_ U0 m_ args_ below_ meth_ co_ C hr hlk hnm
  refine g_iload_n C dJ12_checkIndex_0 rfl 0 rfl ?_
  refine g_iload_n C dJ12_checkIndex_1 rfl 1 rfl ?_
  refine g_null C dJ12_checkIndex_2 ?_
  refine g_S3I C (met_J13_checkIndex_0 (by omega) (by omega)) (va_cwS 3 C.2.2.2.2.1 (lw_S q493 q494 q82 q495) rfl rfl rfl ok_J13_checkIndex ⟨(Nat.le_of_ble_eq_true rfl), (Nat.le_of_ble_eq_true rfl)⟩) (Nat.le_of_ble_eq_true rfl) dJ12_checkIndex_3 ⟨(Nat.le_of_ble_eq_true rfl), (Nat.le_of_ble_eq_true rfl)⟩ (fun r_3 h_3 n_3 hp_3 hn_3 => ?_)
  obtain ⟨rfl, rfl, rfl⟩ := hp_3
  exact g_iret C hr hlk dJ12_checkIndex_6 (Nat.le_of_ble_eq_true rfl) (Nat.le_of_ble_eq_true rfl) rfl ⟨_, rfl, ⟨rfl, rfl, rfl⟩⟩
theorem ok_J9_max : yJ9_max.cls ≠ "java/lang/invoke/MethodHandle" ∧ yJ9_max.cls ≠ "java/lang/invoke/VarHandle" ∧ (parseMethodDescriptor yJ9_max.desc).map (fun d => d.parameters.length) = some 2 := by decide +kernel
set_option maxHeartbeats 4000000 in
set_option maxRecDepth 100000 in
theorem met_J9_max {l : Launch} {D : va_G} {b0 n : Nat} {h : GH} {x y : Nat} (hx : x < 2 ^ 31) (hy : y < 2 ^ 31) : gMet l yJ9_max cJ9_max 2 ((some .int)) 0 0 0 0 D b0 h n [.int (nI x), .int (nI y)] (pI (fun r' h' n' => nI (max x y) = r' ∧ h = h' ∧ n = n')) := by
  refine gMet.ofF (lv := [(0, _), (1, _)]) (by decide +kernel) (Nat.le_of_ble_eq_true rfl) rfl ?_
  intro p_ e_ U0 m_ args_ below_ meth_ co_ C hr hlk hnm
  refine g_iload_n C dJ9_max_0 rfl 0 rfl ?_
  refine g_iload_n C dJ9_max_1 rfl 1 rfl ?_
  refine g_icmp_ltN (tgt := 9) C dJ9_max_2 (by decide) (by omega) (by omega) (fun c_2 => ?_) (fun c_2 => ?_)
  · refine g_iload_n C dJ9_max_9 rfl 1 rfl ?_
    exact g_iret C hr hlk dJ9_max_10 (Nat.le_of_ble_eq_true rfl) (Nat.le_of_ble_eq_true rfl) rfl ⟨_, rfl, ⟨by rw [Nat.max_eq_right (by omega)], rfl, rfl⟩⟩
  · refine g_iload_n C dJ9_max_5 rfl 0 rfl ?_
    refine g_goto (tgt := 10) C dJ9_max_6 (by decide) ?_
    exact g_iret C hr hlk dJ9_max_10 (Nat.le_of_ble_eq_true rfl) (Nat.le_of_ble_eq_true rfl) rfl ⟨_, rfl, ⟨by rw [Nat.max_eq_left (by omega)], rfl, rfl⟩⟩
theorem ok_J9_min : yJ9_min.cls ≠ "java/lang/invoke/MethodHandle" ∧ yJ9_min.cls ≠ "java/lang/invoke/VarHandle" ∧ (parseMethodDescriptor yJ9_min.desc).map (fun d => d.parameters.length) = some 2 := by decide +kernel
set_option maxHeartbeats 4000000 in
set_option maxRecDepth 100000 in
theorem met_J9_min {l : Launch} {D : va_G} {b0 n : Nat} {h : GH} {x y : Nat} (hx : x < 2 ^ 31) (hy : y < 2 ^ 31) : gMet l yJ9_min cJ9_min 2 ((some .int)) 0 0 0 0 D b0 h n [.int (nI x), .int (nI y)] (pI (fun r' h' n' => nI (min x y) = r' ∧ h = h' ∧ n = n')) := by
  refine gMet.ofF (lv := [(0, _), (1, _)]) (by decide +kernel) (Nat.le_of_ble_eq_true rfl) rfl ?_
  intro p_ e_ U0 m_ args_ below_ meth_ co_ C hr hlk hnm
  refine g_iload_n C dJ9_min_0 rfl 0 rfl ?_
  refine g_iload_n C dJ9_min_1 rfl 1 rfl ?_
  refine g_icmp_gtN (tgt := 9) C dJ9_min_2 (by decide) (by omega) (by omega) (fun c_2 => ?_) (fun c_2 => ?_)
  · refine g_iload_n C dJ9_min_9 rfl 1 rfl ?_
    exact g_iret C hr hlk dJ9_min_10 (Nat.le_of_ble_eq_true rfl) (Nat.le_of_ble_eq_true rfl) rfl ⟨_, rfl, ⟨by rw [Nat.min_eq_right (by omega)], rfl, rfl⟩⟩
  · refine g_iload_n C dJ9_min_5 rfl 0 rfl ?_
    refine g_goto (tgt := 10) C dJ9_min_6 (by decide) ?_
    exact g_iret C hr hlk dJ9_min_10 (Nat.le_of_ble_eq_true rfl) (Nat.le_of_ble_eq_true rfl) rfl ⟨_, rfl, ⟨by rw [Nat.min_eq_left (by omega)], rfl, rfl⟩⟩
theorem ok_J8_newLength : yJ8_newLength.cls ≠ "java/lang/invoke/MethodHandle" ∧ yJ8_newLength.cls ≠ "java/lang/invoke/VarHandle" ∧ (parseMethodDescriptor yJ8_newLength.desc).map (fun d => d.parameters.length) = some 3 := by decide +kernel
set_option maxHeartbeats 4000000 in
set_option maxRecDepth 100000 in
theorem met_J8_newLength {l : Launch} {D : va_G} {b0 n : Nat} {h : GH} {x y z : Nat} (hx : x + y < 2 ^ 30) (hz : x + z < 2 ^ 30) (hy : 0 < y) : gMet l yJ8_newLength cJ8_newLength 4 ((some .int)) 1 21 0 0 D b0 h n [.int (nI x), .int (nI y), .int (nI z)] (pI (fun r' h' n' => nI (x + max y z) = r' ∧ h = h' ∧ n = n')) := by
  refine gMet.of (lv := [(0, _), (1, _), (2, _)]) (by decide) (Nat.le_of_ble_eq_true rfl) rfl ?_
  intro p_ e_ U0 m_ args_ below_ meth_ co_ C hr hlk hnm
  have hm := Nat.max_le.mpr ⟨(show y ≤ 2 ^ 30 - x by omega), (show z ≤ 2 ^ 30 - x by omega)⟩
  have hm2 := Nat.le_max_left y z
  refine g_iload_n C dJ8_newLength_0 rfl 0 rfl ?_
  refine g_iload_n C dJ8_newLength_1 rfl 1 rfl ?_
  refine g_iload_n C dJ8_newLength_2 rfl 2 rfl ?_
  refine g_S2I C (met_J9_max (by omega) (by omega)) (va_cwS 2 C.2.2.2.2.1 (lw_S q275 q276 q75 q277) rfl rfl rfl ok_J9_max ⟨(Nat.le_of_ble_eq_true rfl), (Nat.le_of_ble_eq_true rfl)⟩) (Nat.le_of_ble_eq_true rfl) dJ8_newLength_3 ⟨(Nat.le_of_ble_eq_true rfl), (Nat.le_of_ble_eq_true rfl)⟩ (fun r_3 h_3 n_3 hp_3 hn_3 => ?_)
  obtain ⟨rfl, rfl, rfl⟩ := hp_3
  refine g_iaddN C dJ8_newLength_6 ?_
  refine g_istore_n (lv' := [(3, _), (0, _), (1, _), (2, _)]) C dJ8_newLength_7 rfl (by decide) rfl ?_
  refine g_iconst C dJ8_newLength_8 kc_0 ?_
  refine g_iload_n C dJ8_newLength_9 rfl 0 rfl ?_
  refine g_icmp_geN (tgt := 21) C dJ8_newLength_10 (by decide) (by omega) (by omega) (fun c_10 => absurd c_10 (by omega)) (fun c_10 => ?_)
  refine g_iload_n C dJ8_newLength_13 rfl 0 rfl ?_
  refine g_ldc C q278 dJ8_newLength_14 ?_
  refine g_topi (y := nI 2147483639) rfl ?_
  refine g_icmp_gtN (tgt := 21) C dJ8_newLength_16 (by decide) (by omega) (by omega) (fun c_16 => absurd c_16 (by omega)) (fun c_16 => ?_)
  refine g_iload_n C dJ8_newLength_19 rfl 0 rfl ?_
  exact g_iret C hr hlk dJ8_newLength_20 (Nat.le_of_ble_eq_true rfl) (Nat.le_of_ble_eq_true rfl) rfl ⟨_, rfl, ⟨rfl, rfl, rfl⟩⟩
