theorem ok_X3_init : yX3_init.cls ≠ "java/lang/invoke/MethodHandle" ∧ yX3_init.cls ≠ "java/lang/invoke/VarHandle" ∧ (parseMethodDescriptor yX3_init.desc).map (fun d => d.parameters.length) = some 3 := by decide +kernel
set_option maxHeartbeats 4000000 in
set_option maxRecDepth 100000 in
theorem met_X3_init {l : Launch} {D : va_G} {b0 n : Nat} {h : GH} {e f g d : Nat} {v0 v1 v2 v3 : Value} (hE : h e = gO 3 [v0, v1, v2, v3]) (ha : b0 ≤ e) : gMet l yX3_init cX3_init 4 (none) 1 20 0 0 D b0 h n [.ref e, .int (nI f), .int (nI g), .int (nI d)] (pV (fun h' n' => (va_up h e (gO 3 [.int (nI f), .int (nI g), .int (nI d), v3])) = h' ∧ n = n')) := by
  refine gMet.of (lv := [(0, _), (1, _), (2, _), (3, _)]) (by decide) (Nat.le_of_ble_eq_true rfl) rfl ?_
  intro p_ e_ U0 m_ args_ below_ meth_ co_ C hr hlk hnm
  refine g_aload_n C dX3_init_0 rfl 0 rfl ?_
  refine g_objInit C q325 dX3_init_1 (Nat.le_of_ble_eq_true rfl) (Nat.le_of_ble_eq_true rfl) ?_
  refine g_aload_n C dX3_init_4 rfl 0 rfl ?_
  refine g_iload_n C dX3_init_5 rfl 1 rfl ?_
  refine g_putF C in_X3 tyX3 tyX3_ok nmX3 hE ha rfl 0 (by decide) q326 (fun _ hx => hx) rfl hnm rfl rfl rfl rfl (Nat.le_of_ble_eq_true rfl) rfl dX3_init_6 ?_
  refine g_aload_n C dX3_init_9 rfl 0 rfl ?_
  refine g_iload_n C dX3_init_10 rfl 2 rfl ?_
  refine g_putF C in_X3 tyX3 tyX3_ok nmX3 (va_up_self _ _ _) ha rfl 1 (by decide) q329 (fun _ hx => hx) rfl hnm rfl rfl rfl rfl (Nat.le_of_ble_eq_true rfl) (va_uu _ _ _ _) dX3_init_11 ?_
  refine g_aload_n C dX3_init_14 rfl 0 rfl ?_
  refine g_iload_n C dX3_init_15 rfl 3 rfl ?_
  refine g_putF C in_X3 tyX3 tyX3_ok nmX3 (va_up_self _ _ _) ha rfl 2 (by decide) q332 (fun _ hx => hx) rfl hnm rfl rfl rfl rfl (Nat.le_of_ble_eq_true rfl) (va_uu _ _ _ _) dX3_init_16 ?_
  exact g_vret C hr hlk dX3_init_19 (Nat.le_of_ble_eq_true rfl) (Nat.le_of_ble_eq_true rfl) ⟨rfl, rfl, rfl⟩
theorem ok_X3_has : yX3_has.cls = "MapSheets$Edge" ∧ yX3_has.cls ≠ "java/lang/invoke/MethodHandle" ∧ yX3_has.cls ≠ "java/lang/invoke/VarHandle" ∧ (parseMethodDescriptor yX3_has.desc).map (fun d => d.parameters.length) = some 1 := by decide +kernel
set_option maxHeartbeats 4000000 in
set_option maxRecDepth 100000 in
theorem met_X3_has {l : Launch} {D : va_G} {b0 n : Nat} {h : GH} {e f g d : Nat} {ag : Int32} {x : Int32} (hE : h e = gO 3 [.int (nI f), .int (nI g), .int (nI d), .int ag]) : gMet l yX3_has cX3_has 2 ((some .boolean)) 0 0 0 0 D b0 h n [.ref e, .int x] (pI (fun r' h' n' => bI (decide (x = nI f ∨ x = nI g)) = r' ∧ h = h' ∧ n = n')) := by
  refine gMet.of (lv := [(0, _), (1, _)]) (by decide) (Nat.le_of_ble_eq_true rfl) rfl ?_
  intro p_ e_ U0 m_ args_ below_ meth_ co_ C hr hlk hnm
  refine g_iload_n C dX3_has_0 rfl 1 rfl ?_
  refine g_aload_n C dX3_has_1 rfl 0 rfl ?_
  refine g_get C in_X3 hE rfl 0 (by decide) q326 (fun _ hx => hx) rfl dX3_has_2 ?_
  refine g_icmp_eq (tgt := 16) C dX3_has_5 (by decide) (fun c_5 => ?_) (fun c_5 => ?_)
  · refine g_iconst C dX3_has_16 kc_1 ?_
    refine g_goto (tgt := 21) C dX3_has_17 (by decide) ?_
    exact g_iret C hr hlk dX3_has_21 (Nat.le_of_ble_eq_true rfl) (Nat.le_of_ble_eq_true rfl) rfl ⟨_, rfl, ⟨(bI_t (decide_eq_true (Or.inl c_5))).symm, rfl, rfl⟩⟩
  · refine g_iload_n C dX3_has_8 rfl 1 rfl ?_
    refine g_aload_n C dX3_has_9 rfl 0 rfl ?_
    refine g_get C in_X3 hE rfl 1 (by decide) q329 (fun _ hx => hx) rfl dX3_has_10 ?_
    refine g_icmp_ne (tgt := 20) C dX3_has_13 (by decide) (fun c_13 => ?_) (fun c_13 => ?_)
    · refine g_iconst C dX3_has_20 kc_0 ?_
      exact g_iret C hr hlk dX3_has_21 (Nat.le_of_ble_eq_true rfl) (Nat.le_of_ble_eq_true rfl) rfl ⟨_, rfl, ⟨(bI_f (decide_eq_false (fun q => q.elim c_5 c_13))).symm, rfl, rfl⟩⟩
    · refine g_iconst C dX3_has_16 kc_1 ?_
      refine g_goto (tgt := 21) C dX3_has_17 (by decide) ?_
      exact g_iret C hr hlk dX3_has_21 (Nat.le_of_ble_eq_true rfl) (Nat.le_of_ble_eq_true rfl) rfl ⟨_, rfl, ⟨(bI_t (decide_eq_true (Or.inr c_13))).symm, rfl, rfl⟩⟩
theorem ok_X3_sideOf : yX3_sideOf.cls = "MapSheets$Edge" ∧ yX3_sideOf.cls ≠ "java/lang/invoke/MethodHandle" ∧ yX3_sideOf.cls ≠ "java/lang/invoke/VarHandle" ∧ (parseMethodDescriptor yX3_sideOf.desc).map (fun d => d.parameters.length) = some 1 := by decide +kernel
set_option maxHeartbeats 4000000 in
set_option maxRecDepth 100000 in
theorem met_X3_sideOf {l : Launch} {D : va_G} {b0 n : Nat} {h : GH} {e f g d : Nat} {ag : Int32} {k : Nat} (hE : h e = gO 3 [.int (nI f), .int (nI g), .int (nI d), .int ag]) (hk : k < 100) (hf : f < 100) (hd : d < 4) : gMet l yX3_sideOf cX3_sideOf 2 ((some .int)) 0 0 0 0 D b0 h n [.ref e, .int (nI k)] (pI (fun r' h' n' => nI (if k = f then d else (d + 2) % 4) = r' ∧ h = h' ∧ n = n')) := by
  refine gMet.of (lv := [(0, _), (1, _)]) (by decide) (Nat.le_of_ble_eq_true rfl) rfl ?_
  intro p_ e_ U0 m_ args_ below_ meth_ co_ C hr hlk hnm
  refine g_iload_n C dX3_sideOf_0 rfl 1 rfl ?_
  refine g_aload_n C dX3_sideOf_1 rfl 0 rfl ?_
  refine g_get C in_X3 hE rfl 0 (by decide) q326 (fun _ hx => hx) rfl dX3_sideOf_2 ?_
  refine g_icmp_neN (tgt := 15) C dX3_sideOf_5 (by decide) (by omega) (by omega) (fun c_5 => ?_) (fun c_5 => ?_)
  · refine g_aload_n C dX3_sideOf_15 rfl 0 rfl ?_
    refine g_get C in_X3 hE rfl 2 (by decide) q332 (fun _ hx => hx) rfl dX3_sideOf_16 ?_
    refine g_iconst C dX3_sideOf_19 kc_2 ?_
    refine g_iaddN C dX3_sideOf_20 ?_
    refine g_iconst C dX3_sideOf_21 kc_4 ?_
    refine g_iremN C dX3_sideOf_22 (by omega) (by omega) (by omega) ?_
    exact g_iret C hr hlk dX3_sideOf_23 (Nat.le_of_ble_eq_true rfl) (Nat.le_of_ble_eq_true rfl) rfl ⟨_, rfl, ⟨by rw [if_neg c_5], rfl, rfl⟩⟩
  · refine g_aload_n C dX3_sideOf_8 rfl 0 rfl ?_
    refine g_get C in_X3 hE rfl 2 (by decide) q332 (fun _ hx => hx) rfl dX3_sideOf_9 ?_
    refine g_goto (tgt := 23) C dX3_sideOf_12 (by decide) ?_
    exact g_iret C hr hlk dX3_sideOf_23 (Nat.le_of_ble_eq_true rfl) (Nat.le_of_ble_eq_true rfl) rfl ⟨_, rfl, ⟨by rw [if_pos c_5], rfl, rfl⟩⟩
theorem ok_X3_other : yX3_other.cls = "MapSheets$Edge" ∧ yX3_other.cls ≠ "java/lang/invoke/MethodHandle" ∧ yX3_other.cls ≠ "java/lang/invoke/VarHandle" ∧ (parseMethodDescriptor yX3_other.desc).map (fun d => d.parameters.length) = some 1 := by decide +kernel
set_option maxHeartbeats 4000000 in
set_option maxRecDepth 100000 in
theorem met_X3_other {l : Launch} {D : va_G} {b0 n : Nat} {h : GH} {e f g d : Nat} {ag : Int32} {k : Nat} (hE : h e = gO 3 [.int (nI f), .int (nI g), .int (nI d), .int ag]) (hk : k < 100) (hf : f < 100) : gMet l yX3_other cX3_other 2 ((some .int)) 0 0 0 0 D b0 h n [.ref e, .int (nI k)] (pI (fun r' h' n' => nI (if k = f then g else f) = r' ∧ h = h' ∧ n = n')) := by
  refine gMet.of (lv := [(0, _), (1, _)]) (by decide) (Nat.le_of_ble_eq_true rfl) rfl ?_
  intro p_ e_ U0 m_ args_ below_ meth_ co_ C hr hlk hnm
  refine g_iload_n C dX3_other_0 rfl 1 rfl ?_
  refine g_aload_n C dX3_other_1 rfl 0 rfl ?_
  refine g_get C in_X3 hE rfl 0 (by decide) q326 (fun _ hx => hx) rfl dX3_other_2 ?_
  refine g_icmp_neN (tgt := 15) C dX3_other_5 (by decide) (by omega) (by omega) (fun c_5 => ?_) (fun c_5 => ?_)
  · refine g_aload_n C dX3_other_15 rfl 0 rfl ?_
    refine g_get C in_X3 hE rfl 0 (by decide) q326 (fun _ hx => hx) rfl dX3_other_16 ?_
    exact g_iret C hr hlk dX3_other_19 (Nat.le_of_ble_eq_true rfl) (Nat.le_of_ble_eq_true rfl) rfl ⟨_, rfl, ⟨by rw [if_neg c_5], rfl, rfl⟩⟩
  · refine g_aload_n C dX3_other_8 rfl 0 rfl ?_
    refine g_get C in_X3 hE rfl 1 (by decide) q329 (fun _ hx => hx) rfl dX3_other_9 ?_
    refine g_goto (tgt := 19) C dX3_other_12 (by decide) ?_
    exact g_iret C hr hlk dX3_other_19 (Nat.le_of_ble_eq_true rfl) (Nat.le_of_ble_eq_true rfl) rfl ⟨_, rfl, ⟨by rw [if_pos c_5], rfl, rfl⟩⟩
theorem ok_X5_init : yX5_init.cls ≠ "java/lang/invoke/MethodHandle" ∧ yX5_init.cls ≠ "java/lang/invoke/VarHandle" ∧ (parseMethodDescriptor yX5_init.desc).map (fun d => d.parameters.length) = some 2 := by decide +kernel
set_option maxHeartbeats 4000000 in
set_option maxRecDepth 100000 in
theorem met_X5_init {l : Launch} {D : va_G} {b0 n : Nat} {h : GH} {e p q : Nat} {v0 v1 : Value} (hE : h e = gO 5 [v0, v1]) (ha : b0 ≤ e) : gMet l yX5_init cX5_init 3 (none) 1 20 0 0 D b0 h n [.ref e, .int (nI p), .int (nI q)] (pV (fun h' n' => (va_up h e (gO 5 [.int (nI p), .int (nI q)])) = h' ∧ n = n')) := by
  refine gMet.of (lv := [(0, _), (1, _), (2, _)]) (by decide) (Nat.le_of_ble_eq_true rfl) rfl ?_
  intro p_ e_ U0 m_ args_ below_ meth_ co_ C hr hlk hnm
  refine g_aload_n C dX5_init_0 rfl 0 rfl ?_
  refine g_objInit C q563 dX5_init_1 (Nat.le_of_ble_eq_true rfl) (Nat.le_of_ble_eq_true rfl) ?_
  refine g_aload_n C dX5_init_4 rfl 0 rfl ?_
  refine g_iload_n C dX5_init_5 rfl 1 rfl ?_
  refine g_putF C in_X5 tyX5 tyX5_ok nmX5 hE ha rfl 0 (by decide) q564 (fun _ hx => hx) rfl hnm rfl rfl rfl rfl (Nat.le_of_ble_eq_true rfl) rfl dX5_init_6 ?_
  refine g_aload_n C dX5_init_9 rfl 0 rfl ?_
  refine g_iload_n C dX5_init_10 rfl 2 rfl ?_
  refine g_putF C in_X5 tyX5 tyX5_ok nmX5 (va_up_self _ _ _) ha rfl 1 (by decide) q566 (fun _ hx => hx) rfl hnm rfl rfl rfl rfl (Nat.le_of_ble_eq_true rfl) (va_uu _ _ _ _) dX5_init_11 ?_
  exact g_vret C hr hlk dX5_init_14 (Nat.le_of_ble_eq_true rfl) (Nat.le_of_ble_eq_true rfl) ⟨rfl, rfl, rfl⟩
theorem ok_X7_init : yX7_init.cls ≠ "java/lang/invoke/MethodHandle" ∧ yX7_init.cls ≠ "java/lang/invoke/VarHandle" ∧ (parseMethodDescriptor yX7_init.desc).map (fun d => d.parameters.length) = some 2 := by decide +kernel
set_option maxHeartbeats 4000000 in
set_option maxRecDepth 100000 in
theorem met_X7_init_S {l : Launch} {D : va_G} {b0 n : Nat} {h : GH} {e p q : Nat} {v0 v1 v2 : Value} (hE : h e = gO 8 [v0, v1, v2]) (ha : b0 ≤ e) : gMet l yX7_init cX7_init 3 (none) 1 20 0 0 D b0 h n [.ref e, .int (nI p), .int (nI q)] (pV (fun h' n' => (va_up h e (gO 8 [.int (nI p), .int (nI q), v2])) = h' ∧ n = n')) := by
  refine gMet.of (lv := [(0, _), (1, _), (2, _)]) (by decide) (Nat.le_of_ble_eq_true rfl) rfl ?_
  intro p_ e_ U0 m_ args_ below_ meth_ co_ C hr hlk hnm
  refine g_aload_n C dX7_init_0 rfl 0 rfl ?_
  refine g_objInit C q1038 dX7_init_1 (Nat.le_of_ble_eq_true rfl) (Nat.le_of_ble_eq_true rfl) ?_
  refine g_aload_n C dX7_init_4 rfl 0 rfl ?_
  refine g_iload_n C dX7_init_5 rfl 1 rfl ?_
  refine g_putF C in_X8 tyX8 tyX8_ok nmX8 hE ha rfl 0 (by decide) q1041 (fun _ hx => hx) rfl hnm rfl rfl rfl rfl (Nat.le_of_ble_eq_true rfl) rfl dX7_init_6 ?_
  refine g_aload_n C dX7_init_9 rfl 0 rfl ?_
  refine g_iload_n C dX7_init_10 rfl 2 rfl ?_
  refine g_putF C in_X8 tyX8 tyX8_ok nmX8 (va_up_self _ _ _) ha rfl 1 (by decide) q1043 (fun _ hx => hx) rfl hnm rfl rfl rfl rfl (Nat.le_of_ble_eq_true rfl) (va_uu _ _ _ _) dX7_init_11 ?_
  exact g_vret C hr hlk dX7_init_14 (Nat.le_of_ble_eq_true rfl) (Nat.le_of_ble_eq_true rfl) ⟨rfl, rfl, rfl⟩
set_option maxHeartbeats 4000000 in
set_option maxRecDepth 100000 in
theorem met_X7_init_B {l : Launch} {D : va_G} {b0 n : Nat} {h : GH} {e p q : Nat} {v0 v1 : Value} (hE : h e = gO 9 [v0, v1]) (ha : b0 ≤ e) : gMet l yX7_init cX7_init 3 (none) 1 20 0 0 D b0 h n [.ref e, .int (nI p), .int (nI q)] (pV (fun h' n' => (va_up h e (gO 9 [.int (nI p), .int (nI q)])) = h' ∧ n = n')) := by
  refine gMet.of (lv := [(0, _), (1, _), (2, _)]) (by decide) (Nat.le_of_ble_eq_true rfl) rfl ?_
  intro p_ e_ U0 m_ args_ below_ meth_ co_ C hr hlk hnm
  refine g_aload_n C dX7_init_0 rfl 0 rfl ?_
  refine g_objInit C q1038 dX7_init_1 (Nat.le_of_ble_eq_true rfl) (Nat.le_of_ble_eq_true rfl) ?_
  refine g_aload_n C dX7_init_4 rfl 0 rfl ?_
  refine g_iload_n C dX7_init_5 rfl 1 rfl ?_
  refine g_putF C in_X9 tyX9 tyX9_ok nmX9 hE ha rfl 0 (by decide) q1041 (fun _ hx => hx) rfl hnm rfl rfl rfl rfl (Nat.le_of_ble_eq_true rfl) rfl dX7_init_6 ?_
  refine g_aload_n C dX7_init_9 rfl 0 rfl ?_
  refine g_iload_n C dX7_init_10 rfl 2 rfl ?_
  refine g_putF C in_X9 tyX9 tyX9_ok nmX9 (va_up_self _ _ _) ha rfl 1 (by decide) q1043 (fun _ hx => hx) rfl hnm rfl rfl rfl rfl (Nat.le_of_ble_eq_true rfl) (va_uu _ _ _ _) dX7_init_11 ?_
  exact g_vret C hr hlk dX7_init_14 (Nat.le_of_ble_eq_true rfl) (Nat.le_of_ble_eq_true rfl) ⟨rfl, rfl, rfl⟩
theorem ok_X8_init : yX8_init.cls ≠ "java/lang/invoke/MethodHandle" ∧ yX8_init.cls ≠ "java/lang/invoke/VarHandle" ∧ (parseMethodDescriptor yX8_init.desc).map (fun d => d.parameters.length) = some 3 := by decide +kernel
set_option maxHeartbeats 4000000 in
set_option maxRecDepth 100000 in
theorem met_X8_init {l : Launch} {D : va_G} {b0 n : Nat} {h : GH} {e p q z : Nat} {v0 v1 v2 : Value} (hE : h e = gO 8 [v0, v1, v2]) (ha : b0 ≤ e) : gMet l yX8_init cX8_init 4 (none) 2 42 0 0 D b0 h n [.ref e, .int (nI p), .int (nI q), .int (nI z)] (pV (fun h' n' => (va_up h e (gO 8 [.int (nI p), .int (nI q), .int (nI z)])) = h' ∧ n = n')) := by
  refine gMet.of (lv := [(0, _), (1, _), (2, _), (3, _)]) (by decide) (Nat.le_of_ble_eq_true rfl) rfl ?_
  intro p_ e_ U0 m_ args_ below_ meth_ co_ C hr hlk hnm
  refine g_aload_n C dX8_init_0 rfl 0 rfl ?_
  refine g_iload_n C dX8_init_1 rfl 1 rfl ?_
  refine g_iload_n C dX8_init_2 rfl 2 rfl ?_
  refine g_I2V C (met_X7_init_S hE ha) (cwI 2 C.2.2.2.2.1 (lw_meth q1037) rfl rfl rfl (C.2.2.2.2.1 _ q89) (C.2.2.2.2.1 _ q1035) (C.2.2.2.2.1 _ q1036) rfl ok_X7_init ⟨(Nat.le_of_ble_eq_true rfl), (Nat.le_of_ble_eq_true rfl)⟩) (Nat.le_of_ble_eq_true rfl) dX8_init_3 ⟨(Nat.le_of_ble_eq_true rfl), (Nat.le_of_ble_eq_true rfl)⟩ (fun h_3 n_3 hp_3 hn_3 => ?_)
  obtain ⟨rfl, rfl⟩ := hp_3
  refine g_aload_n C dX8_init_6 rfl 0 rfl ?_
  refine g_iload_n C dX8_init_7 rfl 3 rfl ?_
  refine g_putF C in_X8 tyX8 tyX8_ok nmX8 (va_up_self _ _ _) ha rfl 2 (by decide) q1039 (fun _ hx => hx) rfl hnm rfl rfl rfl rfl (Nat.le_of_ble_eq_true rfl) (va_uu _ _ _ _) dX8_init_8 ?_
  exact g_vret C hr hlk dX8_init_11 (Nat.le_of_ble_eq_true rfl) (Nat.le_of_ble_eq_true rfl) ⟨rfl, rfl, rfl⟩
theorem ok_X9_init : yX9_init.cls ≠ "java/lang/invoke/MethodHandle" ∧ yX9_init.cls ≠ "java/lang/invoke/VarHandle" ∧ (parseMethodDescriptor yX9_init.desc).map (fun d => d.parameters.length) = some 2 := by decide +kernel
set_option maxHeartbeats 4000000 in
set_option maxRecDepth 100000 in
theorem met_X9_init {l : Launch} {D : va_G} {b0 n : Nat} {h : GH} {e p q : Nat} {v0 v1 : Value} (hE : h e = gO 9 [v0, v1]) (ha : b0 ≤ e) : gMet l yX9_init cX9_init 3 (none) 2 42 0 0 D b0 h n [.ref e, .int (nI p), .int (nI q)] (pV (fun h' n' => (va_up h e (gO 9 [.int (nI p), .int (nI q)])) = h' ∧ n = n')) := by
  refine gMet.of (lv := [(0, _), (1, _), (2, _)]) (by decide) (Nat.le_of_ble_eq_true rfl) rfl ?_
  intro p_ e_ U0 m_ args_ below_ meth_ co_ C hr hlk hnm
  refine g_aload_n C dX9_init_0 rfl 0 rfl ?_
  refine g_iload_n C dX9_init_1 rfl 1 rfl ?_
  refine g_iload_n C dX9_init_2 rfl 2 rfl ?_
  refine g_I2V C (met_X7_init_B hE ha) (cwI 2 C.2.2.2.2.1 (lw_meth q1037) rfl rfl rfl (C.2.2.2.2.1 _ q89) (C.2.2.2.2.1 _ q1057) (C.2.2.2.2.1 _ q1036) rfl ok_X7_init ⟨(Nat.le_of_ble_eq_true rfl), (Nat.le_of_ble_eq_true rfl)⟩) (Nat.le_of_ble_eq_true rfl) dX9_init_3 ⟨(Nat.le_of_ble_eq_true rfl), (Nat.le_of_ble_eq_true rfl)⟩ (fun h_3 n_3 hp_3 hn_3 => ?_)
  obtain ⟨rfl, rfl⟩ := hp_3
  exact g_vret C hr hlk dX9_init_6 (Nat.le_of_ble_eq_true rfl) (Nat.le_of_ble_eq_true rfl) ⟨rfl, rfl, rfl⟩
theorem ok_X2_meant : yX2_meant.cls = "MapSheets$Sheet" ∧ yX2_meant.cls ≠ "java/lang/invoke/MethodHandle" ∧ yX2_meant.cls ≠ "java/lang/invoke/VarHandle" ∧ (parseMethodDescriptor yX2_meant.desc).map (fun d => d.parameters.length) = some 2 := by decide +kernel
set_option maxHeartbeats 4000000 in
set_option maxRecDepth 100000 in
theorem met_X2_meant {l : Launch} {D : va_G} {b0 n : Nat} {h : GH} {A : Nat → Nat} {s : Nat → Int32} {k : Nat} {d q : Nat} (S : ShAt D b0 h A (us s k)) (V : MV s) (hk : k < 36) (hd : d < 4) (hq : q < 10) : gMet l yX2_meant cX2_meant 4 ((some .int)) 0 0 0 0 D b0 h n [.ref (A 0), .int (nI d), .int (nI q)] (pI (fun r' h' n' => xm (m_mean s k d q) = r' ∧ h = h' ∧ n = n')) := by
  refine gMet.of (lv := [(0, _), (1, _), (2, _)]) (by decide) (Nat.le_of_ble_eq_true rfl) rfl ?_
  intro p_ e_ U0 m_ args_ below_ meth_ co_ C hr hlk hnm
  obtain ⟨F, hF1, hF2⟩ := S.sides
  obtain ⟨lf, hl1, hl2⟩ := S.leg
  obtain ⟨sf, hs1, hs2⟩ := S.side d hd
  have v1 := V.1 k hk (10 * d + q) (by omega)
  have hsq : sf q = xm (sv s (ix k (10 * d + q))) := by rw [hs2 q hq]; show xsg (s (ix k (10 * d + q))) = _; rw [v1.1, xsg_nI v1.2]
  refine g_aload_n C dX2_meant_0 rfl 0 rfl ?_
  refine g_get C in_X2 S.obj rfl 0 (by decide) q227 (fun _ hx => hx) rfl dX2_meant_1 ?_
  refine g_iload_n C dX2_meant_4 rfl 1 rfl ?_
  refine g_aald (t0 := 3) (v := .ref (A (3 + d))) C hF1 rfl rfl (by omega) (by omega) (by rw [hF2 d hd]; rfl) dX2_meant_5 ?_
  refine g_iload_n C dX2_meant_6 rfl 2 rfl ?_
  refine g_ialdN C hs1 (by omega) (by omega) dX2_meant_7 ?_
  refine g_topi (y := xm (sv s (ix k (10 * d + q)))) hsq ?_
  refine g_istore_n (lv' := [(3, _), (0, _), (1, _), (2, _)]) C dX2_meant_8 rfl (by decide) rfl ?_
  refine g_iload_n C dX2_meant_9 rfl 0 rfl ?_
  refine g_iconst C dX2_meant_10 kc_m1 ?_
  refine g_icmp_ne (tgt := 18) C dX2_meant_11 (by decide) (fun c_11 => ?_) (fun c_11 => ?_)
  · have hv9 : sv s (ix k (10 * d + q)) ≠ 10 := fun e => c_11 ((xm_m1 v1.2).mpr e)
    have v2 := V.2 k hk (sv s (ix k (10 * d + q))) (by omega)
    refine g_aload_n C dX2_meant_18 rfl 1 rfl ?_
    refine g_get C in_X2 S.obj rfl 1 (by decide) q231 (fun _ hx => hx) rfl dX2_meant_19 ?_
    refine g_iload_n C dX2_meant_22 rfl 0 rfl ?_
    refine g_topi (y := nI (sv s (ix k (10 * d + q)))) (xm_f hv9) ?_
    refine g_ialdN C hl1 (by omega) (by omega) dX2_meant_23 ?_
    exact g_iret C hr hlk dX2_meant_24 (Nat.le_of_ble_eq_true rfl) (Nat.le_of_ble_eq_true rfl) rfl ⟨_, rfl, ⟨by rw [hl2 _ (by omega)]; unfold m_mean; rw [if_neg hv9, xm_f (by omega)]; exact v2.1.symm, rfl, rfl⟩⟩
  · have hv9 : sv s (ix k (10 * d + q)) = 10 := (xm_m1 v1.2).mp c_11
    refine g_iconst C dX2_meant_14 kc_m1 ?_
    refine g_goto (tgt := 24) C dX2_meant_15 (by decide) ?_
    exact g_iret C hr hlk dX2_meant_24 (Nat.le_of_ble_eq_true rfl) (Nat.le_of_ble_eq_true rfl) rfl ⟨_, rfl, ⟨by unfold m_mean; rw [if_pos hv9, xm_t rfl], rfl, rfl⟩⟩
theorem ok_X2_signFor : yX2_signFor.cls = "MapSheets$Sheet" ∧ yX2_signFor.cls ≠ "java/lang/invoke/MethodHandle" ∧ yX2_signFor.cls ≠ "java/lang/invoke/VarHandle" ∧ (parseMethodDescriptor yX2_signFor.desc).map (fun d => d.parameters.length) = some 1 := by decide +kernel
set_option maxHeartbeats 4000000 in
set_option maxRecDepth 100000 in
theorem met_X2_signFor {l : Launch} {D : va_G} {b0 n : Nat} {h : GH} {A : Nat → Nat} {s : Nat → Int32} {k : Nat} {m : Nat} (S : ShAt D b0 h A (us s k)) (V : MV s) (hk : k < 36) (hm : m ≤ 10) : gMet l yX2_signFor cX2_signFor 3 ((some .int)) 0 0 0 0 D b0 h n [.ref (A 0), .int (nI m)] (pI (fun r' h' n' => xfd s k m = r' ∧ h = h' ∧ n = n')) := by
  refine gMet.of (lv := [(0, _), (1, _)]) (by decide) (Nat.le_of_ble_eq_true rfl) rfl ?_
  intro p_ e_ U0 m_ args_ below_ meth_ co_ C hr hlk hnm
  obtain ⟨F, hF1, hF2⟩ := S.sides
  obtain ⟨lf, hl1, hl2⟩ := S.leg
  refine g_iconst C dX2_signFor_0 kc_0 ?_
  refine g_istore_n (lv' := [(2, _), (0, _), (1, _)]) C dX2_signFor_1 rfl (by decide) rfl ?_
  have loop : ∀ (N_ i : Nat) , i ≤ 10 → 10 < i + N_ → m_fd s k m 10 0 = m_fd s k m (10 - i) i → gW p_ l e_ (headSpec (ws_ yX2_signFor cX2_signFor 3 ((some .int))) (gRm 0 0 0 0)).room U0 m_ args_ below_ meth_ co_ (MQ below_ (gQc D b0 (pI (fun r' h' n' => xfd s k m = r' ∧ h = h' ∧ n = n'))) args_ U0 0 0 (gA b0)) D b0 3 h n 0 0 2 [(0, .ref (A 0)), (1, .int (nI m)), (2, .int (nI i))] [] := by
    intro N_
    induction N_ with
    | zero => intro i  h1_ h2_; exact absurd h2_ (by omega)
    | succ N_ ih =>
      intro i  h1_ h2_ hf
      refine g_iload_n C dX2_signFor_2 rfl 2 rfl ?_
      refine g_bipush C dX2_signFor_3 kb_10 ?_
      refine g_icmp_geN (tgt := 26) C dX2_signFor_5 (by decide) (by omega) (by omega) (fun c_5 => ?_) (fun c_5 => ?_)
      · refine g_iconst C dX2_signFor_26 kc_m1 ?_
        exact g_iret C hr hlk dX2_signFor_27 (Nat.le_of_ble_eq_true rfl) (Nat.le_of_ble_eq_true rfl) rfl ⟨_, rfl, ⟨by unfold xfd; rw [hf, show i = 10 by omega]; rfl, rfl, rfl⟩⟩
      · have v2 := V.2 k hk i (by omega)
        refine g_aload_n C dX2_signFor_8 rfl 0 rfl ?_
        refine g_get C in_X2 S.obj rfl 1 (by decide) q231 (fun _ hx => hx) rfl dX2_signFor_9 ?_
        refine g_iload_n C dX2_signFor_12 rfl 2 rfl ?_
        refine g_ialdN C hl1 (by omega) (by omega) dX2_signFor_13 ?_
        refine g_topi (y := nI (sv s (ix k (40 + i)))) (by rw [hl2 i (by omega)]; exact v2.1) ?_
        refine g_iload_n C dX2_signFor_14 rfl 1 rfl ?_
        refine g_icmp_neN (tgt := 20) C dX2_signFor_15 (by decide) (by omega) (by omega) (fun c_15 => ?_) (fun c_15 => ?_)
        · refine g_iinc (lv' := [(2, _), (0, _), (1, _)]) (t := 2) C dX2_signFor_20 rfl (nI_1 _) (by decide) rfl ?_
          refine g_goto (tgt := 2) C dX2_signFor_23 (by decide) ?_
          refine g_pick (lv' := [(0, _), (1, _), (2, _)]) [1, 2, 0] rfl ?_
          exact ih (i + 1) (by omega) (by omega) (by rw [hf, show 10 - i = (10 - (i + 1)) + 1 by omega]; show (if _ then _ else _) = _; rw [if_neg c_15])
        · refine g_iload_n C dX2_signFor_18 rfl 2 rfl ?_
          exact g_iret C hr hlk dX2_signFor_19 (Nat.le_of_ble_eq_true rfl) (Nat.le_of_ble_eq_true rfl) rfl ⟨_, rfl, ⟨xfd_hit hf (by omega) c_15, rfl, rfl⟩⟩
  refine g_pick (lv' := [(0, _), (1, _), (2, _)]) [1, 2, 0] rfl ?_
  exact loop 11 0 (by omega) (by omega) rfl
theorem ok_X2_settled : yX2_settled.cls = "MapSheets$Sheet" ∧ yX2_settled.cls ≠ "java/lang/invoke/MethodHandle" ∧ yX2_settled.cls ≠ "java/lang/invoke/VarHandle" ∧ (parseMethodDescriptor yX2_settled.desc).map (fun d => d.parameters.length) = some 3 := by decide +kernel
set_option maxHeartbeats 4000000 in
set_option maxRecDepth 100000 in
theorem met_X2_settled {l : Launch} {D : va_G} {b0 n : Nat} {h : GH} {A : Nat → Nat} {s : Nat → Int32} {k : Nat} {d q m : Nat} (S : ShAt D b0 h A (us s k)) (V : MV s) (hk : k < 36) (hd : d < 4) (hq : q < 10) (hm : m ≤ 10) : gMet l yX2_settled cX2_settled 5 ((some .int)) 1 23 0 0 D b0 h n [.ref (A 0), .int (nI d), .int (nI q), .int (xm m)] (pI (fun r' h' n' => xsf (m_sf s k (sv s (ix k (10 * d + q))) m) = r' ∧ h = h' ∧ n = n')) := by
  refine gMet.of (lv := [(0, _), (1, _), (2, _), (3, _)]) (by decide) (Nat.le_of_ble_eq_true rfl) rfl ?_
  intro p_ e_ U0 m_ args_ below_ meth_ co_ C hr hlk hnm
  obtain ⟨F, hF1, hF2⟩ := S.sides
  obtain ⟨lf, hl1, hl2⟩ := S.leg
  obtain ⟨sf, hs1, hs2⟩ := S.side d hd
  have v1 := V.1 k hk (10 * d + q) (by omega)
  have hsq : sf q = xm (sv s (ix k (10 * d + q))) := by rw [hs2 q hq]; show xsg (s (ix k (10 * d + q))) = _; rw [v1.1, xsg_nI v1.2]
  have hmm := m_mean_le V hk hd hq
  refine g_iload_n C dX2_settled_0 rfl 3 rfl ?_
  refine g_iconst C dX2_settled_1 kc_m1 ?_
  refine g_icmp_eq (tgt := 15) C dX2_settled_2 (by decide) (fun c_2 => ?_) (fun c_2 => ?_)
  · rw [xm_m1 hm] at c_2
    refine g_iload_n C dX2_settled_15 rfl 3 rfl ?_
    refine g_iconst C dX2_settled_16 kc_m1 ?_
    refine g_icmp_ne (tgt := 24) C dX2_settled_17 (by decide) (fun c_17 => absurd ((xm_m1 hm).mpr c_2) c_17) (fun c_17 => ?_)
    refine g_iconst C dX2_settled_20 kc_m1 ?_
    refine g_goto (tgt := 32) C dX2_settled_21 (by decide) ?_
    exact g_iret C hr hlk dX2_settled_32 (Nat.le_of_ble_eq_true rfl) (Nat.le_of_ble_eq_true rfl) rfl ⟨_, rfl, ⟨by rw [c_2]; exact x_set1, rfl, rfl⟩⟩
  · rw [xm_m1 hm] at c_2
    refine g_aload_n C dX2_settled_5 rfl 0 rfl ?_
    refine g_iload_n C dX2_settled_6 rfl 1 rfl ?_
    refine g_iload_n C dX2_settled_7 rfl 2 rfl ?_
    refine g_V2I C (met_X2_meant S V (by omega) (by omega) (by omega)) (cwV 2 C.2.2.2.2.1 (lw_V q765 q555 q556 q73 q557) rfl rfl rfl ok_X2_meant ⟨(Nat.le_of_ble_eq_true rfl), (Nat.le_of_ble_eq_true rfl)⟩) S.obj rfl (Nat.le_of_ble_eq_true rfl) dX2_settled_8 ⟨(Nat.le_of_ble_eq_true rfl), (Nat.le_of_ble_eq_true rfl)⟩ (fun r_8 h_8 n_8 hp_8 hn_8 => ?_)
    obtain ⟨rfl, rfl, rfl⟩ := hp_8
    refine g_iload_n C dX2_settled_11 rfl 3 rfl ?_
    refine g_icmp_ne (tgt := 33) C dX2_settled_12 (by decide) (fun c_12 => ?_) (fun c_12 => ?_)
    · rw [xm_inj hmm hm] at c_12
      refine g_aload_n C dX2_settled_33 rfl 0 rfl ?_
      refine g_iload_n C dX2_settled_34 rfl 3 rfl ?_
      refine g_topi (y := nI (m)) (xm_f c_2) ?_
      refine g_V1I C (met_X2_signFor S V (by omega) (by omega)) (cwV 1 C.2.2.2.2.1 (lw_V q766 q767 q768 q73 q769) rfl rfl rfl ok_X2_signFor ⟨(Nat.le_of_ble_eq_true rfl), (Nat.le_of_ble_eq_true rfl)⟩) S.obj rfl (Nat.le_of_ble_eq_true rfl) dX2_settled_35 ⟨(Nat.le_of_ble_eq_true rfl), (Nat.le_of_ble_eq_true rfl)⟩ (fun r_35 h_35 n_35 hp_35 hn_35 => ?_)
      obtain ⟨rfl, rfl, rfl⟩ := hp_35
      refine g_istore (lv' := [(4, _), (0, _), (1, _), (2, _), (3, _)]) C dX2_settled_38 (by decide) rfl ?_
      refine g_iload C dX2_settled_40 0 rfl ?_
      refine g_iconst C dX2_settled_42 kc_m1 ?_
      refine g_icmp_ne (tgt := 51) C dX2_settled_43 (by decide) (fun c_43 => ?_) (fun c_43 => ?_)
      · refine g_iload C dX2_settled_51 0 rfl ?_
        exact g_iret C hr hlk dX2_settled_53 (Nat.le_of_ble_eq_true rfl) (Nat.le_of_ble_eq_true rfl) rfl ⟨_, rfl, ⟨by rw [x_set3 c_2 c_12]; exact x_set5 c_43, rfl, rfl⟩⟩
      · refine g_bipush C dX2_settled_46 kb_m2 ?_
        refine g_goto (tgt := 53) C dX2_settled_48 (by decide) ?_
        exact g_iret C hr hlk dX2_settled_53 (Nat.le_of_ble_eq_true rfl) (Nat.le_of_ble_eq_true rfl) rfl ⟨_, rfl, ⟨by rw [x_set3 c_2 c_12]; exact x_set4 c_43, rfl, rfl⟩⟩
    · rw [xm_inj hmm hm] at c_12
      refine g_iload_n C dX2_settled_15 rfl 3 rfl ?_
      refine g_iconst C dX2_settled_16 kc_m1 ?_
      refine g_icmp_ne (tgt := 24) C dX2_settled_17 (by decide) (fun c_17 => ?_) (fun c_17 => absurd ((xm_m1 hm).mp c_17) c_2)
      refine g_aload_n C dX2_settled_24 rfl 0 rfl ?_
      refine g_get C in_X2 S.obj rfl 0 (by decide) q227 (fun _ hx => hx) rfl dX2_settled_25 ?_
      refine g_iload_n C dX2_settled_28 rfl 1 rfl ?_
      refine g_aald (t0 := 3) (v := .ref (A (3 + d))) C hF1 rfl rfl (by omega) (by omega) (by rw [hF2 d hd]; rfl) dX2_settled_29 ?_
      refine g_iload_n C dX2_settled_30 rfl 2 rfl ?_
      refine g_ialdN C hs1 (by omega) (by omega) dX2_settled_31 ?_
      exact g_iret C hr hlk dX2_settled_32 (Nat.le_of_ble_eq_true rfl) (Nat.le_of_ble_eq_true rfl) rfl ⟨_, rfl, ⟨by rw [hsq]; exact x_set2 c_2 c_12 v1.2, rfl, rfl⟩⟩
theorem ok_X2_signs : yX2_signs.cls = "MapSheets$Sheet" ∧ yX2_signs.cls ≠ "java/lang/invoke/MethodHandle" ∧ yX2_signs.cls ≠ "java/lang/invoke/VarHandle" ∧ (parseMethodDescriptor yX2_signs.desc).map (fun d => d.parameters.length) = some 0 := by decide +kernel
set_option maxHeartbeats 4000000 in
set_option maxRecDepth 100000 in
theorem met_X2_signs {l : Launch} {D : va_G} {b0 n : Nat} {h : GH} {A : Nat → Nat} {s : Nat → Int32} {k : Nat} (S : ShAt D b0 h A (us s k)) (V : MV s) (hk : k < 36) : gMet l yX2_signs cX2_signs 10 ((some .int)) 0 0 0 0 D b0 h n [.ref (A 0)] (pI (fun r' h' n' => nI (m_sgn s k) = r' ∧ h = h' ∧ n = n')) := by
  refine gMet.of (lv := [(0, _)]) (by decide) (Nat.le_of_ble_eq_true rfl) rfl ?_
  intro p_ e_ U0 m_ args_ below_ meth_ co_ C hr hlk hnm
  obtain ⟨F, hF1, hF2⟩ := S.sides
  obtain ⟨lf, hl1, hl2⟩ := S.leg
  refine g_iconst C dX2_signs_0 kc_0 ?_
  refine g_istore_n (lv' := [(1, _), (0, _)]) C dX2_signs_1 rfl (by decide) rfl ?_
  refine g_aload_n C dX2_signs_2 rfl 1 rfl ?_
  refine g_get C in_X2 S.obj rfl 0 (by decide) q227 (fun _ hx => hx) rfl dX2_signs_3 ?_
  refine g_astore_n (lv' := [(2, _), (1, _), (0, _)]) C dX2_signs_6 rfl (by decide) rfl ?_
  refine g_aload_n C dX2_signs_7 rfl 0 rfl ?_
  refine g_alen (t0 := 3) (v := nI 4) C hF1 rfl rfl dX2_signs_8 ?_
  refine g_istore_n (lv' := [(3, _), (2, _), (1, _), (0, _)]) C dX2_signs_9 rfl (by decide) rfl ?_
  refine g_iconst C dX2_signs_10 kc_0 ?_
  refine g_istore (lv' := [(4, _), (3, _), (2, _), (1, _), (0, _)]) C dX2_signs_11 (by decide) rfl ?_
  have loop : ∀ (N_ i : Nat) , i ≤ 4 → 4 < i + N_ → gW p_ l e_ (headSpec (ws_ yX2_signs cX2_signs 10 ((some .int))) (gRm 0 0 0 0)).room U0 m_ args_ below_ meth_ co_ (MQ below_ (gQc D b0 (pI (fun r' h' n' => nI (m_sgn s k) = r' ∧ h = h' ∧ n = n'))) args_ U0 0 0 (gA b0)) D b0 10 h n 0 0 13 [(0, .ref (A 0)), (1, .int (nI (cnt (fun j => decide (s (ix k j) ≠ nI 10)) (10 * i)))), (2, .ref (A 1)), (3, .int (nI 4)), (4, .int (nI i))] [] := by
    intro N_
    induction N_ with
    | zero => intro i  h1_ h2_; exact absurd h2_ (by omega)
    | succ N_ ih =>
      intro i  h1_ h2_ 
      refine g_iload C dX2_signs_13 4 rfl ?_
      refine g_iload_n C dX2_signs_15 rfl 3 rfl ?_
      refine g_icmp_geN (tgt := 77) C dX2_signs_16 (by decide) (by omega) (by omega) (fun c_16 => ?_) (fun c_16 => ?_)
      · refine g_iload_n C dX2_signs_77 rfl 1 rfl ?_
        exact g_iret C hr hlk dX2_signs_78 (Nat.le_of_ble_eq_true rfl) (Nat.le_of_ble_eq_true rfl) rfl ⟨_, rfl, ⟨by rw [show i = 4 by omega]; rfl, rfl, rfl⟩⟩
      · refine g_aload_n C dX2_signs_19 rfl 2 rfl ?_
        refine g_iload C dX2_signs_20 4 rfl ?_
        refine g_aald (t0 := 3) (v := .ref (A (3 + i))) C hF1 rfl rfl (by omega) (by omega) (by rw [hF2 i (by omega)]; rfl) dX2_signs_22 ?_
        obtain ⟨sf, hs1, hs2⟩ := S.side i (by omega)
        refine g_astore (lv' := [(5, _), (0, _), (1, _), (2, _), (3, _), (4, _)]) C dX2_signs_23 (by decide) rfl ?_
        refine g_aload C dX2_signs_25 0 rfl ?_
        refine g_astore (lv' := [(6, _), (5, _), (0, _), (1, _), (2, _), (3, _), (4, _)]) C dX2_signs_27 (by decide) rfl ?_
        refine g_aload C dX2_signs_29 0 rfl ?_
        refine g_alen (t0 := 0) (v := nI 10) C hs1 rfl rfl dX2_signs_31 ?_
        refine g_istore (lv' := [(7, _), (6, _), (5, _), (0, _), (1, _), (2, _), (3, _), (4, _)]) C dX2_signs_32 (by decide) rfl ?_
        refine g_iconst C dX2_signs_34 kc_0 ?_
        refine g_istore (lv' := [(8, _), (7, _), (6, _), (5, _), (0, _), (1, _), (2, _), (3, _), (4, _)]) C dX2_signs_35 (by decide) rfl ?_
        have loop2 : ∀ (N2 j : Nat) , j ≤ 10 → 10 < j + N2 → gW p_ l e_ (headSpec (ws_ yX2_signs cX2_signs 10 ((some .int))) (gRm 0 0 0 0)).room U0 m_ args_ below_ meth_ co_ (MQ below_ (gQc D b0 (pI (fun r' h' n' => nI (m_sgn s k) = r' ∧ h = h' ∧ n = n'))) args_ U0 0 0 (gA b0)) D b0 10 h n 0 0 37 [(0, .ref (A 0)), (1, .int (nI (cnt (fun j => decide (s (ix k j) ≠ nI 10)) (10 * i + j)))), (2, .ref (A 1)), (3, .int (nI 4)), (4, .int (nI i)), (5, .ref (A (3 + i))), (6, .ref (A (3 + i))), (7, .int (nI 10)), (8, .int (nI j))] [] := by
          intro N2
          induction N2 with
          | zero => intro j  h3_ h4_; exact absurd h4_ (by omega)
          | succ N2 ih2 =>
            intro j  h3_ h4_ 
            refine g_iload C dX2_signs_37 8 rfl ?_
            refine g_iload C dX2_signs_39 7 rfl ?_
            refine g_icmp_geN (tgt := 71) C dX2_signs_41 (by decide) (by omega) (by omega) (fun c_41 => ?_) (fun c_41 => ?_)
            · refine g_iinc (lv' := [(4, _), (0, _), (1, _), (2, _), (3, _), (5, _), (6, _), (7, _), (8, _)]) (t := 4) C dX2_signs_71 rfl (nI_1 _) (by decide) rfl ?_
              refine g_goto (tgt := 13) C dX2_signs_74 (by decide) ?_
              refine g_pick (lv' := [(0, _), (1, _), (2, _), (3, _), (4, _)]) [1, 2, 3, 4, 0] rfl ?_
              refine g_eq (lv' := [(0, .ref (A 0)), (1, .int (nI (cnt (fun j => decide (s (ix k j) ≠ nI 10)) (10 * (i + 1))))), (2, .ref (A 1)), (3, .int (nI 4)), (4, .int (nI (i + 1)))]) rfl (by rw [show 10 * i + j = 10 * (i + 1) by omega]) rfl ?_
              exact ih (i + 1) (by omega) (by omega)
            · refine g_aload C dX2_signs_44 6 rfl ?_
              refine g_iload C dX2_signs_46 8 rfl ?_
              refine g_ialdN C hs1 (by omega) (by omega) dX2_signs_48 ?_
              refine g_topi (y := xsg (s (ix k (10 * i + j)))) (hs2 j (by omega)) ?_
              refine g_istore (lv' := [(9, _), (0, _), (1, _), (2, _), (3, _), (4, _), (5, _), (6, _), (7, _), (8, _)]) C dX2_signs_49 (by decide) rfl ?_
              refine g_iload_n C dX2_signs_51 rfl 2 rfl ?_
              refine g_iload C dX2_signs_52 0 rfl ?_
              refine g_iconst C dX2_signs_54 kc_m1 ?_
              refine g_icmp_ne (tgt := 62) C dX2_signs_55 (by decide) (fun c_55 => ?_) (fun c_55 => ?_)
              · have c_55x : s (ix k (10 * i + j)) ≠ nI 10 := fun e => c_55 ((xsg_m1 V hk (by omega)).mpr e)
                refine g_iconst C dX2_signs_62 kc_1 ?_
                refine g_iaddN C dX2_signs_63 ?_
                refine g_istore_n (lv' := [(1, _), (9, _), (0, _), (2, _), (3, _), (4, _), (5, _), (6, _), (7, _), (8, _)]) C dX2_signs_64 rfl (by decide) rfl ?_
                refine g_iinc (lv' := [(8, _), (1, _), (9, _), (0, _), (2, _), (3, _), (4, _), (5, _), (6, _), (7, _)]) (t := 9) C dX2_signs_65 rfl (nI_1 _) (by decide) rfl ?_
                refine g_goto (tgt := 37) C dX2_signs_68 (by decide) ?_
                refine g_pick (lv' := [(0, _), (1, _), (2, _), (3, _), (4, _), (5, _), (6, _), (7, _), (8, _)]) [3, 1, 4, 5, 6, 7, 8, 9, 0] rfl ?_
                refine g_eq (lv' := [(0, .ref (A 0)), (1, .int (nI (cnt (fun j => decide (s (ix k j) ≠ nI 10)) (10 * i + (j + 1))))), (2, .ref (A 1)), (3, .int (nI 4)), (4, .int (nI i)), (5, .ref (A (3 + i))), (6, .ref (A (3 + i))), (7, .int (nI 10)), (8, .int (nI (j + 1)))]) rfl (by rw [← Nat.add_assoc, cnt_s (decide_eq_true c_55x)]) rfl ?_
                exact ih2 (j + 1) (by omega) (by omega)
              · have c_55x : s (ix k (10 * i + j)) = nI 10 := (xsg_m1 V hk (by omega)).mp c_55
                refine g_iconst C dX2_signs_58 kc_0 ?_
                refine g_goto (tgt := 63) C dX2_signs_59 (by decide) ?_
                refine g_iaddN C dX2_signs_63 ?_
                refine g_istore_n (lv' := [(1, _), (9, _), (0, _), (2, _), (3, _), (4, _), (5, _), (6, _), (7, _), (8, _)]) C dX2_signs_64 rfl (by decide) rfl ?_
                refine g_iinc (lv' := [(8, _), (1, _), (9, _), (0, _), (2, _), (3, _), (4, _), (5, _), (6, _), (7, _)]) (t := 9) C dX2_signs_65 rfl (nI_1 _) (by decide) rfl ?_
                refine g_goto (tgt := 37) C dX2_signs_68 (by decide) ?_
                refine g_pick (lv' := [(0, _), (1, _), (2, _), (3, _), (4, _), (5, _), (6, _), (7, _), (8, _)]) [3, 1, 4, 5, 6, 7, 8, 9, 0] rfl ?_
                refine g_eq (lv' := [(0, .ref (A 0)), (1, .int (nI (cnt (fun j => decide (s (ix k j) ≠ nI 10)) (10 * i + (j + 1))))), (2, .ref (A 1)), (3, .int (nI 4)), (4, .int (nI i)), (5, .ref (A (3 + i))), (6, .ref (A (3 + i))), (7, .int (nI 10)), (8, .int (nI (j + 1)))]) rfl (by rw [← Nat.add_assoc, cnt_n (decide_eq_false (fun q => q c_55x))]) rfl ?_
                exact ih2 (j + 1) (by omega) (by omega)
        refine g_pick (lv' := [(0, _), (1, _), (2, _), (3, _), (4, _), (5, _), (6, _), (7, _), (8, _)]) [4, 5, 6, 7, 8, 3, 2, 1, 0] rfl ?_
        exact loop2 11 0 (by omega) (by omega)
  refine g_pick (lv' := [(0, _), (1, _), (2, _), (3, _), (4, _)]) [4, 3, 2, 1, 0] rfl ?_
  exact loop 5 0 (by omega) (by omega)
theorem ok_X2_setScale : yX2_setScale.cls = "MapSheets$Sheet" ∧ yX2_setScale.cls ≠ "java/lang/invoke/MethodHandle" ∧ yX2_setScale.cls ≠ "java/lang/invoke/VarHandle" ∧ (parseMethodDescriptor yX2_setScale.desc).map (fun d => d.parameters.length) = some 1 := by decide +kernel
set_option maxHeartbeats 4000000 in
set_option maxRecDepth 100000 in
theorem met_X2_setScale {l : Launch} {D : va_G} {b0 n : Nat} {h : GH} {a z : Nat} {v0 v1 v2 v3 v4 v5 : Value} (hO : h a = gO 2 [v0, v1, v2, v3, v4, v5]) (ha : b0 ≤ a) (h1 : 1 ≤ z) (h2 : z ≤ 1000000) : gMet l yX2_setScale cX2_setScale 2 (none) 0 0 0 0 D b0 h n [.ref a, .int (nI z)] (pV (fun h' n' => (va_up h a (gO 2 [v0, v1, v2, v3, .float (f_sc (nI z)), .int (nI z)])) = h' ∧ n = n')) := by
  refine gMet.of (lv := [(0, _), (1, _)]) (by decide) (Nat.le_of_ble_eq_true rfl) rfl ?_
  intro p_ e_ U0 m_ args_ below_ meth_ co_ C hr hlk hnm
  refine g_aload_n C dX2_setScale_0 rfl 0 rfl ?_
  refine g_iload_n C dX2_setScale_1 rfl 1 rfl ?_
  refine g_put C in_X2 tyX2 tyX2_ok nmX2 hO ha rfl 5 (by decide) q241 (fun _ hx => hx) rfl rfl rfl rfl (Nat.le_of_ble_eq_true rfl) rfl dX2_setScale_2 ?_
  refine g_aload_n C dX2_setScale_5 rfl 0 rfl ?_
  refine g_iload_n C dX2_setScale_6 rfl 1 rfl ?_
  refine g_i2f C dX2_setScale_7 ?_
  refine g_ldcf C q484 dX2_setScale_8 ?_
  refine g_fdiv C dX2_setScale_10 (fl_sc h1 h2).2 ?_
  refine g_put C in_X2 tyX2 tyX2_ok nmX2 (va_up_self _ _ _) ha rfl 4 (by decide) q238 (fun _ hx => hx) rfl rfl rfl rfl (Nat.le_of_ble_eq_true rfl) (va_uu _ _ _ _) dX2_setScale_11 ?_
  exact g_vret C hr hlk dX2_setScale_14 (Nat.le_of_ble_eq_true rfl) (Nat.le_of_ble_eq_true rfl) ⟨rfl, rfl, rfl⟩
