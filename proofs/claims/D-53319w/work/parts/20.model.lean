theorem ok_X4_in : yX4_in.cls ≠ "java/lang/invoke/MethodHandle" ∧ yX4_in.cls ≠ "java/lang/invoke/VarHandle" ∧ (parseMethodDescriptor yX4_in.desc).map (fun d => d.parameters.length) = some 3 := by decide +kernel
set_option maxHeartbeats 4000000 in
set_option maxRecDepth 100000 in
theorem met_X4_in {l : Launch} {D : va_G} {b0 n : Nat} {h0 : GH} {x : Int32} {y : Int32} {z : Int32}  : gMet l yX4_in cX4_in 3 ((some .boolean)) 0 0 0 0 D b0 h0 n [.int x, .int y, .int z] (pI (fun r' h' n' => bI (decide (y ≤ x ∧ x ≤ z)) = r' ∧ h0 = h' ∧ n = n')) := by
  refine gMet.of (lv := [(0, _), (1, _), (2, _)]) (by decide) (Nat.le_of_ble_eq_true rfl) rfl ?_
  intro p_ e_ U0 m_ args_ below_ meth_ co_ C hr hlk hnm
  refine g_iload_n C dX4_in_0 rfl 0 rfl ?_
  refine g_iload_n C dX4_in_1 rfl 1 rfl ?_
  refine g_icmp_lt (tgt := 14) C dX4_in_2 (by decide) (fun c_2 => ?_) (fun c_2 => ?_)
  · refine g_iconst C dX4_in_14 kc_0 ?_
    exact g_iret C hr hlk dX4_in_15 (Nat.le_of_ble_eq_true rfl) (Nat.le_of_ble_eq_true rfl) rfl ⟨_, rfl, ⟨by first | exact (bI_t (decide_eq_true ⟨Int32.not_lt.mp c_2, Int32.not_lt.mp c_7⟩)).symm | exact (bI_f (decide_eq_false (fun q => absurd c_2 (Int32.not_lt.mpr q.1)))).symm | exact (bI_f (decide_eq_false (fun q => absurd c_7 (Int32.not_lt.mpr q.2)))).symm, rfl, rfl⟩⟩
  · refine g_iload_n C dX4_in_5 rfl 0 rfl ?_
    refine g_iload_n C dX4_in_6 rfl 2 rfl ?_
    refine g_icmp_gt (tgt := 14) C dX4_in_7 (by decide) (fun c_7 => ?_) (fun c_7 => ?_)
    · refine g_iconst C dX4_in_14 kc_0 ?_
      exact g_iret C hr hlk dX4_in_15 (Nat.le_of_ble_eq_true rfl) (Nat.le_of_ble_eq_true rfl) rfl ⟨_, rfl, ⟨by first | exact (bI_t (decide_eq_true ⟨Int32.not_lt.mp c_2, Int32.not_lt.mp c_7⟩)).symm | exact (bI_f (decide_eq_false (fun q => absurd c_2 (Int32.not_lt.mpr q.1)))).symm | exact (bI_f (decide_eq_false (fun q => absurd c_7 (Int32.not_lt.mpr q.2)))).symm, rfl, rfl⟩⟩
    · refine g_iconst C dX4_in_10 kc_1 ?_
      refine g_goto (tgt := 15) C dX4_in_11 (by decide) ?_
      exact g_iret C hr hlk dX4_in_15 (Nat.le_of_ble_eq_true rfl) (Nat.le_of_ble_eq_true rfl) rfl ⟨_, rfl, ⟨by first | exact (bI_t (decide_eq_true ⟨Int32.not_lt.mp c_2, Int32.not_lt.mp c_7⟩)).symm | exact (bI_f (decide_eq_false (fun q => absurd c_2 (Int32.not_lt.mpr q.1)))).symm | exact (bI_f (decide_eq_false (fun q => absurd c_7 (Int32.not_lt.mpr q.2)))).symm, rfl, rfl⟩⟩
theorem ok_X4_sheets : yX4_sheets.cls = "MapSheetsModel" ∧ yX4_sheets.cls ≠ "java/lang/invoke/MethodHandle" ∧ yX4_sheets.cls ≠ "java/lang/invoke/VarHandle" ∧ (parseMethodDescriptor yX4_sheets.desc).map (fun d => d.parameters.length) = some 0 := by decide +kernel
set_option maxHeartbeats 4000000 in
set_option maxRecDepth 100000 in
theorem met_X4_sheets {l : Launch} {D : va_G} {b0 n : Nat} {h0 : GH} {g : Nat → Nat} {s w a t b : Nat → Int32} {st ty : Int32} {c : Nat} {r : Nat}  (G : gM b0 g) (I : MI s c r) : gMet l yX4_sheets cX4_sheets 1 ((some .int)) 0 0 0 0 D b0 (mh h0 D g s w a t b st ty) n [.ref (g 0)] (pI (fun r' h' n' => nI (c * r) = r' ∧ (mh h0 D g s w a t b st ty) = h' ∧ n = n')) := by
  refine gMet.of (lv := [(0, _)]) (by decide) (Nat.le_of_ble_eq_true rfl) rfl ?_
  intro p_ e_ U0 m_ args_ below_ meth_ co_ C hr hlk hnm
  have hI := m_ed_le I
  obtain ⟨I0, I1, I2, I3, I4, I5⟩ := id I
  refine g_aload_n C dX4_sheets_0 rfl 0 rfl ?_
  refine g_get C in_X4 (mh_0 G) rfl 0 (by decide) q1160 (fun _ hx => hx) rfl dX4_sheets_1 ?_
  refine g_iconst C dX4_sheets_4 kc_0 ?_
  refine g_ialdN C (mh_1 G) (by omega) (by omega) dX4_sheets_5 ?_
  refine g_topi (y := nI (c)) I.1 ?_
  refine g_aload_n C dX4_sheets_6 rfl 0 rfl ?_
  refine g_get C in_X4 (mh_0 G) rfl 0 (by decide) q1160 (fun _ hx => hx) rfl dX4_sheets_7 ?_
  refine g_iconst C dX4_sheets_10 kc_1 ?_
  refine g_ialdN C (mh_1 G) (by omega) (by omega) dX4_sheets_11 ?_
  refine g_topi (y := nI (r)) I.2.1 ?_
  refine g_imulN C dX4_sheets_12 ?_
  exact g_iret C hr hlk dX4_sheets_13 (Nat.le_of_ble_eq_true rfl) (Nat.le_of_ble_eq_true rfl) rfl ⟨_, rfl, ⟨rfl, rfl, rfl⟩⟩
theorem ok_X4_isSheet : yX4_isSheet.cls = "MapSheetsModel" ∧ yX4_isSheet.cls ≠ "java/lang/invoke/MethodHandle" ∧ yX4_isSheet.cls ≠ "java/lang/invoke/VarHandle" ∧ (parseMethodDescriptor yX4_isSheet.desc).map (fun d => d.parameters.length) = some 1 := by decide +kernel
set_option maxHeartbeats 4000000 in
set_option maxRecDepth 100000 in
theorem met_X4_isSheet {l : Launch} {D : va_G} {b0 n : Nat} {h0 : GH} {g : Nat → Nat} {s w a t b : Nat → Int32} {st ty : Int32} {c : Nat} {r : Nat} {x : Int32} (G : gM b0 g) (I : MI s c r) : gMet l yX4_isSheet cX4_isSheet 2 ((some .boolean)) 1 20 0 0 D b0 (mh h0 D g s w a t b st ty) n [.ref (g 0), .int x] (pI (fun r' h' n' => bI (isIn x (c * r)) = r' ∧ (mh h0 D g s w a t b st ty) = h' ∧ n = n')) := by
  refine gMet.of (lv := [(0, _), (1, _)]) (by decide) (Nat.le_of_ble_eq_true rfl) rfl ?_
  intro p_ e_ U0 m_ args_ below_ meth_ co_ C hr hlk hnm
  have hI := m_ed_le I
  obtain ⟨I0, I1, I2, I3, I4, I5⟩ := id I
  refine g_iload_n C dX4_isSheet_0 rfl 1 rfl ?_
  refine g_if_lt (tgt := 16) C dX4_isSheet_1 (by decide) (fun c_1 => ?_) (fun c_1 => ?_)
  · refine g_iconst C dX4_isSheet_16 kc_0 ?_
    exact g_iret C hr hlk dX4_isSheet_17 (Nat.le_of_ble_eq_true rfl) (Nat.le_of_ble_eq_true rfl) rfl ⟨_, rfl, ⟨by first | exact (bI_t (isIn_t c_1 c_9)).symm | exact (bI_f (isIn_f0 c_1)).symm | exact (bI_f (isIn_f1 (by omega) c_9)).symm, rfl, rfl⟩⟩
  · refine g_iload_n C dX4_isSheet_4 rfl 1 rfl ?_
    refine g_aload_n C dX4_isSheet_5 rfl 0 rfl ?_
    refine g_V0I C (met_X4_sheets G I) (cwV 0 C.2.2.2.2.1 (lw_V q1221 q1223 qs25 q79 q1224) rfl rfl rfl ok_X4_sheets ⟨(Nat.le_of_ble_eq_true rfl), (Nat.le_of_ble_eq_true rfl)⟩) (mh_0 G) rfl (Nat.le_of_ble_eq_true rfl) dX4_isSheet_6 ⟨(Nat.le_of_ble_eq_true rfl), (Nat.le_of_ble_eq_true rfl)⟩ (fun r_6 h_6 n_6 hp_6 hn_6 => ?_)
    obtain ⟨rfl, rfl, rfl⟩ := hp_6
    refine g_icmp_ge (tgt := 16) C dX4_isSheet_9 (by decide) (fun c_9 => ?_) (fun c_9 => ?_)
    · refine g_iconst C dX4_isSheet_16 kc_0 ?_
      exact g_iret C hr hlk dX4_isSheet_17 (Nat.le_of_ble_eq_true rfl) (Nat.le_of_ble_eq_true rfl) rfl ⟨_, rfl, ⟨by first | exact (bI_t (isIn_t c_1 c_9)).symm | exact (bI_f (isIn_f0 c_1)).symm | exact (bI_f (isIn_f1 (by omega) c_9)).symm, rfl, rfl⟩⟩
    · refine g_iconst C dX4_isSheet_12 kc_1 ?_
      refine g_goto (tgt := 17) C dX4_isSheet_13 (by decide) ?_
      exact g_iret C hr hlk dX4_isSheet_17 (Nat.le_of_ble_eq_true rfl) (Nat.le_of_ble_eq_true rfl) rfl ⟨_, rfl, ⟨by first | exact (bI_t (isIn_t c_1 c_9)).symm | exact (bI_f (isIn_f0 c_1)).symm | exact (bI_f (isIn_f1 (by omega) c_9)).symm, rfl, rfl⟩⟩
theorem ok_X4_of : yX4_of.cls = "MapSheetsModel" ∧ yX4_of.cls ≠ "java/lang/invoke/MethodHandle" ∧ yX4_of.cls ≠ "java/lang/invoke/VarHandle" ∧ (parseMethodDescriptor yX4_of.desc).map (fun d => d.parameters.length) = some 2 := by decide +kernel
set_option maxHeartbeats 4000000 in
set_option maxRecDepth 100000 in
theorem met_X4_of {l : Launch} {D : va_G} {b0 n : Nat} {h0 : GH} {g : Nat → Nat} {s w a t b : Nat → Int32} {st ty : Int32} {k : Nat} {j : Nat} (G : gM b0 g) (hk : k < 36) (hj : j < 53) : gMet l yX4_of cX4_of 3 ((some .int)) 0 0 0 0 D b0 (mh h0 D g s w a t b st ty) n [.ref (g 0), .int (nI k), .int (nI j)] (pI (fun r' h' n' => s (ix k j) = r' ∧ (mh h0 D g s w a t b st ty) = h' ∧ n = n')) := by
  refine gMet.of (lv := [(0, _), (1, _), (2, _)]) (by decide) (Nat.le_of_ble_eq_true rfl) rfl ?_
  intro p_ e_ U0 m_ args_ below_ meth_ co_ C hr hlk hnm
  refine g_aload_n C dX4_of_0 rfl 0 rfl ?_
  refine g_get C in_X4 (mh_0 G) rfl 0 (by decide) q1160 (fun _ hx => hx) rfl dX4_of_1 ?_
  refine g_bipush C dX4_of_4 kb_64 ?_
  refine g_bipush C dX4_of_6 kb_53 ?_
  refine g_iload_n C dX4_of_8 rfl 1 rfl ?_
  refine g_imulN C dX4_of_9 ?_
  refine g_iaddN C dX4_of_10 ?_
  refine g_iload_n C dX4_of_11 rfl 2 rfl ?_
  refine g_iaddN C dX4_of_12 ?_
  refine g_ialdN C (mh_1 G) (by omega) (by omega) dX4_of_13 ?_
  exact g_iret C hr hlk dX4_of_14 (Nat.le_of_ble_eq_true rfl) (Nat.le_of_ble_eq_true rfl) rfl ⟨_, rfl, ⟨rfl, rfl, rfl⟩⟩
theorem ok_X4_puts : yX4_puts.cls = "MapSheetsModel" ∧ yX4_puts.cls ≠ "java/lang/invoke/MethodHandle" ∧ yX4_puts.cls ≠ "java/lang/invoke/VarHandle" ∧ (parseMethodDescriptor yX4_puts.desc).map (fun d => d.parameters.length) = some 3 := by decide +kernel
set_option maxHeartbeats 4000000 in
set_option maxRecDepth 100000 in
theorem met_X4_puts {l : Launch} {D : va_G} {b0 n : Nat} {h0 : GH} {g : Nat → Nat} {s w a t b : Nat → Int32} {st ty : Int32} {k : Nat} {j : Nat} {x : Int32} (G : gM b0 g) (hk : k < 36) (hj : j < 53) : gMet l yX4_puts cX4_puts 4 (none) 0 0 0 0 D b0 (mh h0 D g s w a t b st ty) n [.ref (g 0), .int (nI k), .int (nI j), .int x] (pV (fun h' n' => (mh h0 D g (upd s (ix k j) x) w a t b st ty) = h' ∧ n = n')) := by
  refine gMet.of (lv := [(0, _), (1, _), (2, _), (3, _)]) (by decide) (Nat.le_of_ble_eq_true rfl) rfl ?_
  intro p_ e_ U0 m_ args_ below_ meth_ co_ C hr hlk hnm
  refine g_aload_n C dX4_puts_0 rfl 0 rfl ?_
  refine g_get C in_X4 (mh_0 G) rfl 0 (by decide) q1160 (fun _ hx => hx) rfl dX4_puts_1 ?_
  refine g_bipush C dX4_puts_4 kb_64 ?_
  refine g_bipush C dX4_puts_6 kb_53 ?_
  refine g_iload_n C dX4_puts_8 rfl 1 rfl ?_
  refine g_imulN C dX4_puts_9 ?_
  refine g_iaddN C dX4_puts_10 ?_
  refine g_iload_n C dX4_puts_11 rfl 2 rfl ?_
  refine g_iaddN C dX4_puts_12 ?_
  refine g_iload_n C dX4_puts_13 rfl 3 rfl ?_
  refine g_iastN C (mh_1 G) G.ge1 (by omega) (by omega) (mh_u1 G) dX4_puts_14 ?_
  exact g_vret C hr hlk dX4_puts_15 (Nat.le_of_ble_eq_true rfl) (Nat.le_of_ble_eq_true rfl) ⟨rfl, rfl, rfl⟩
theorem ok_X4_revises : yX4_revises.cls = "MapSheetsModel" ∧ yX4_revises.cls ≠ "java/lang/invoke/MethodHandle" ∧ yX4_revises.cls ≠ "java/lang/invoke/VarHandle" ∧ (parseMethodDescriptor yX4_revises.desc).map (fun d => d.parameters.length) = some 1 := by decide +kernel
set_option maxHeartbeats 4000000 in
set_option maxRecDepth 100000 in
theorem met_X4_revises {l : Launch} {D : va_G} {b0 n : Nat} {h0 : GH} {g : Nat → Nat} {s w a t b : Nat → Int32} {st ty : Int32} {k : Nat} (G : gM b0 g) (hk : k < 36) : gMet l yX4_revises cX4_revises 2 (none) 1 23 0 0 D b0 (mh h0 D g s w a t b st ty) n [.ref (g 0), .int (nI k)] (pV (fun h' n' => (mh h0 D g (upd s (ix k 50) (s (ix k 50) + 1)) w a t b st ty) = h' ∧ n = n')) := by
  refine gMet.of (lv := [(0, _), (1, _)]) (by decide) (Nat.le_of_ble_eq_true rfl) rfl ?_
  intro p_ e_ U0 m_ args_ below_ meth_ co_ C hr hlk hnm
  refine g_aload_n C dX4_revises_0 rfl 0 rfl ?_
  refine g_iload_n C dX4_revises_1 rfl 1 rfl ?_
  refine g_bipush C dX4_revises_2 kb_50 ?_
  refine g_aload_n C dX4_revises_4 rfl 0 rfl ?_
  refine g_iload_n C dX4_revises_5 rfl 1 rfl ?_
  refine g_bipush C dX4_revises_6 kb_50 ?_
  refine g_V2I C (met_X4_of G (by omega) (by omega)) (cwV 2 C.2.2.2.2.1 (lw_V q1229 q1231 qs27 q79 q1232) rfl rfl rfl ok_X4_of ⟨(Nat.le_of_ble_eq_true rfl), (Nat.le_of_ble_eq_true rfl)⟩) (mh_0 G) rfl (Nat.le_of_ble_eq_true rfl) dX4_revises_8 ⟨(Nat.le_of_ble_eq_true rfl), (Nat.le_of_ble_eq_true rfl)⟩ (fun r_8 h_8 n_8 hp_8 hn_8 => ?_)
  obtain ⟨rfl, rfl, rfl⟩ := hp_8
  refine g_iconst C dX4_revises_11 kc_1 ?_
  refine g_iadd C dX4_revises_12 ?_
  refine g_V3V C (met_X4_puts G (by omega) (by omega)) (cwV 3 C.2.2.2.2.1 (lw_V q1233 q1235 qs28 q79 q1236) rfl rfl rfl ok_X4_puts ⟨(Nat.le_of_ble_eq_true rfl), (Nat.le_of_ble_eq_true rfl)⟩) (mh_0 G) rfl (Nat.le_of_ble_eq_true rfl) dX4_revises_13 ⟨(Nat.le_of_ble_eq_true rfl), (Nat.le_of_ble_eq_true rfl)⟩ (fun h_13 n_13 hp_13 hn_13 => ?_)
  obtain ⟨rfl, rfl⟩ := hp_13
  exact g_vret C hr hlk dX4_revises_16 (Nat.le_of_ble_eq_true rfl) (Nat.le_of_ble_eq_true rfl) ⟨rfl, rfl, rfl⟩
theorem ok_X4_signAt : yX4_signAt.cls = "MapSheetsModel" ∧ yX4_signAt.cls ≠ "java/lang/invoke/MethodHandle" ∧ yX4_signAt.cls ≠ "java/lang/invoke/VarHandle" ∧ (parseMethodDescriptor yX4_signAt.desc).map (fun d => d.parameters.length) = some 3 := by decide +kernel
set_option maxHeartbeats 4000000 in
set_option maxRecDepth 100000 in
theorem met_X4_signAt {l : Launch} {D : va_G} {b0 n : Nat} {h0 : GH} {g : Nat → Nat} {s w a t b : Nat → Int32} {st ty : Int32} {k : Nat} {d : Nat} {q : Nat} (G : gM b0 g) (hk : k < 36) (hd : d < 4) (hq : q < 10) : gMet l yX4_signAt cX4_signAt 4 ((some .int)) 1 22 0 0 D b0 (mh h0 D g s w a t b st ty) n [.ref (g 0), .int (nI k), .int (nI d), .int (nI q)] (pI (fun r' h' n' => s (ix k (10 * d + q)) = r' ∧ (mh h0 D g s w a t b st ty) = h' ∧ n = n')) := by
  refine gMet.of (lv := [(0, _), (1, _), (2, _), (3, _)]) (by decide) (Nat.le_of_ble_eq_true rfl) rfl ?_
  intro p_ e_ U0 m_ args_ below_ meth_ co_ C hr hlk hnm
  refine g_aload_n C dX4_signAt_0 rfl 0 rfl ?_
  refine g_iload_n C dX4_signAt_1 rfl 1 rfl ?_
  refine g_bipush C dX4_signAt_2 kb_10 ?_
  refine g_iload_n C dX4_signAt_4 rfl 2 rfl ?_
  refine g_imulN C dX4_signAt_5 ?_
  refine g_iload_n C dX4_signAt_6 rfl 3 rfl ?_
  refine g_iaddN C dX4_signAt_7 ?_
  refine g_V2I C (met_X4_of G (by omega) (by omega)) (cwV 2 C.2.2.2.2.1 (lw_V q1229 q1231 qs27 q79 q1232) rfl rfl rfl ok_X4_of ⟨(Nat.le_of_ble_eq_true rfl), (Nat.le_of_ble_eq_true rfl)⟩) (mh_0 G) rfl (Nat.le_of_ble_eq_true rfl) dX4_signAt_8 ⟨(Nat.le_of_ble_eq_true rfl), (Nat.le_of_ble_eq_true rfl)⟩ (fun r_8 h_8 n_8 hp_8 hn_8 => ?_)
  obtain ⟨rfl, rfl, rfl⟩ := hp_8
  exact g_iret C hr hlk dX4_signAt_11 (Nat.le_of_ble_eq_true rfl) (Nat.le_of_ble_eq_true rfl) rfl ⟨_, rfl, ⟨rfl, rfl, rfl⟩⟩
theorem ok_X4_meansAt : yX4_meansAt.cls = "MapSheetsModel" ∧ yX4_meansAt.cls ≠ "java/lang/invoke/MethodHandle" ∧ yX4_meansAt.cls ≠ "java/lang/invoke/VarHandle" ∧ (parseMethodDescriptor yX4_meansAt.desc).map (fun d => d.parameters.length) = some 3 := by decide +kernel
set_option maxHeartbeats 4000000 in
set_option maxRecDepth 100000 in
theorem met_X4_meansAt {l : Launch} {D : va_G} {b0 n : Nat} {h0 : GH} {g : Nat → Nat} {s w a t b : Nat → Int32} {st ty : Int32} {k : Nat} {d : Nat} {q : Nat} (G : gM b0 g) (V : MV s) (hk : k < 36) (hd : d < 4) (hq : q < 10) : gMet l yX4_meansAt cX4_meansAt 5 ((some .int)) 2 45 0 0 D b0 (mh h0 D g s w a t b st ty) n [.ref (g 0), .int (nI k), .int (nI d), .int (nI q)] (pI (fun r' h' n' => nI (m_mean s k d q) = r' ∧ (mh h0 D g s w a t b st ty) = h' ∧ n = n')) := by
  refine gMet.of (lv := [(0, _), (1, _), (2, _), (3, _)]) (by decide) (Nat.le_of_ble_eq_true rfl) rfl ?_
  intro p_ e_ U0 m_ args_ below_ meth_ co_ C hr hlk hnm
  have v1 := V.1 k hk (10 * d + q) (by omega)
  refine g_aload_n C dX4_meansAt_0 rfl 0 rfl ?_
  refine g_iload_n C dX4_meansAt_1 rfl 1 rfl ?_
  refine g_iload_n C dX4_meansAt_2 rfl 2 rfl ?_
  refine g_iload_n C dX4_meansAt_3 rfl 3 rfl ?_
  refine g_V3I C (met_X4_signAt G (by omega) (by omega) (by omega)) (cwV 3 C.2.2.2.2.1 (lw_V q1225 q1227 qs26 q79 q1228) rfl rfl rfl ok_X4_signAt ⟨(Nat.le_of_ble_eq_true rfl), (Nat.le_of_ble_eq_true rfl)⟩) (mh_0 G) rfl (Nat.le_of_ble_eq_true rfl) dX4_meansAt_4 ⟨(Nat.le_of_ble_eq_true rfl), (Nat.le_of_ble_eq_true rfl)⟩ (fun r_4 h_4 n_4 hp_4 hn_4 => ?_)
  obtain ⟨rfl, rfl, rfl⟩ := hp_4
  refine g_topi (y := nI (sv s (ix k (10 * d + q)))) v1.1 ?_
  refine g_istore (lv' := [(4, _), (0, _), (1, _), (2, _), (3, _)]) C dX4_meansAt_7 (by decide) rfl ?_
  refine g_iload C dX4_meansAt_9 0 rfl ?_
  refine g_bipush C dX4_meansAt_11 kb_10 ?_
  refine g_icmp_neN (tgt := 21) C dX4_meansAt_13 (by decide) (by omega) (by omega) (fun c_13 => ?_) (fun c_13 => ?_)
  · have v2 := V.2 k hk (sv s (ix k (10 * d + q))) (by omega)
    refine g_aload_n C dX4_meansAt_21 rfl 1 rfl ?_
    refine g_iload_n C dX4_meansAt_22 rfl 2 rfl ?_
    refine g_bipush C dX4_meansAt_23 kb_40 ?_
    refine g_iload C dX4_meansAt_25 0 rfl ?_
    refine g_iaddN C dX4_meansAt_27 ?_
    refine g_V2I C (met_X4_of G (by omega) (by omega)) (cwV 2 C.2.2.2.2.1 (lw_V q1229 q1231 qs27 q79 q1232) rfl rfl rfl ok_X4_of ⟨(Nat.le_of_ble_eq_true rfl), (Nat.le_of_ble_eq_true rfl)⟩) (mh_0 G) rfl (Nat.le_of_ble_eq_true rfl) dX4_meansAt_28 ⟨(Nat.le_of_ble_eq_true rfl), (Nat.le_of_ble_eq_true rfl)⟩ (fun r_28 h_28 n_28 hp_28 hn_28 => ?_)
    obtain ⟨rfl, rfl, rfl⟩ := hp_28
    refine g_topi (y := nI (sv s (ix k (40 + sv s (ix k (10 * d + q)))))) v2.1 ?_
    exact g_iret C hr hlk dX4_meansAt_31 (Nat.le_of_ble_eq_true rfl) (Nat.le_of_ble_eq_true rfl) rfl ⟨_, rfl, ⟨by unfold m_mean; rw [if_neg c_13], rfl, rfl⟩⟩
  · refine g_bipush C dX4_meansAt_16 kb_10 ?_
    refine g_goto (tgt := 31) C dX4_meansAt_18 (by decide) ?_
    exact g_iret C hr hlk dX4_meansAt_31 (Nat.le_of_ble_eq_true rfl) (Nat.le_of_ble_eq_true rfl) rfl ⟨_, rfl, ⟨by unfold m_mean; rw [if_pos c_13], rfl, rfl⟩⟩
theorem ok_X4_rowEdges : yX4_rowEdges.cls = "MapSheetsModel" ∧ yX4_rowEdges.cls ≠ "java/lang/invoke/MethodHandle" ∧ yX4_rowEdges.cls ≠ "java/lang/invoke/VarHandle" ∧ (parseMethodDescriptor yX4_rowEdges.desc).map (fun d => d.parameters.length) = some 0 := by decide +kernel
set_option maxHeartbeats 4000000 in
set_option maxRecDepth 100000 in
theorem met_X4_rowEdges {l : Launch} {D : va_G} {b0 n : Nat} {h0 : GH} {g : Nat → Nat} {s w a t b : Nat → Int32} {st ty : Int32} {c : Nat} {r : Nat}  (G : gM b0 g) (I : MI s c r) : gMet l yX4_rowEdges cX4_rowEdges 1 ((some .int)) 0 0 0 0 D b0 (mh h0 D g s w a t b st ty) n [.ref (g 0)] (pI (fun r' h' n' => nI (m_re c r) = r' ∧ (mh h0 D g s w a t b st ty) = h' ∧ n = n')) := by
  refine gMet.of (lv := [(0, _)]) (by decide) (Nat.le_of_ble_eq_true rfl) rfl ?_
  intro p_ e_ U0 m_ args_ below_ meth_ co_ C hr hlk hnm
  have hI := m_ed_le I
  obtain ⟨I0, I1, I2, I3, I4, I5⟩ := id I
  refine g_aload_n C dX4_rowEdges_0 rfl 0 rfl ?_
  refine g_get C in_X4 (mh_0 G) rfl 0 (by decide) q1160 (fun _ hx => hx) rfl dX4_rowEdges_1 ?_
  refine g_iconst C dX4_rowEdges_4 kc_0 ?_
  refine g_ialdN C (mh_1 G) (by omega) (by omega) dX4_rowEdges_5 ?_
  refine g_topi (y := nI (c)) I.1 ?_
  refine g_iconst C dX4_rowEdges_6 kc_1 ?_
  refine g_isubN C dX4_rowEdges_7 (by omega) ?_
  refine g_aload_n C dX4_rowEdges_8 rfl 0 rfl ?_
  refine g_get C in_X4 (mh_0 G) rfl 0 (by decide) q1160 (fun _ hx => hx) rfl dX4_rowEdges_9 ?_
  refine g_iconst C dX4_rowEdges_12 kc_1 ?_
  refine g_ialdN C (mh_1 G) (by omega) (by omega) dX4_rowEdges_13 ?_
  refine g_topi (y := nI (r)) I.2.1 ?_
  refine g_imulN C dX4_rowEdges_14 ?_
  exact g_iret C hr hlk dX4_rowEdges_15 (Nat.le_of_ble_eq_true rfl) (Nat.le_of_ble_eq_true rfl) rfl ⟨_, rfl, ⟨rfl, rfl, rfl⟩⟩
theorem ok_X4_edges : yX4_edges.cls = "MapSheetsModel" ∧ yX4_edges.cls ≠ "java/lang/invoke/MethodHandle" ∧ yX4_edges.cls ≠ "java/lang/invoke/VarHandle" ∧ (parseMethodDescriptor yX4_edges.desc).map (fun d => d.parameters.length) = some 0 := by decide +kernel
set_option maxHeartbeats 4000000 in
set_option maxRecDepth 100000 in
theorem met_X4_edges {l : Launch} {D : va_G} {b0 n : Nat} {h0 : GH} {g : Nat → Nat} {s w a t b : Nat → Int32} {st ty : Int32} {c : Nat} {r : Nat}  (G : gM b0 g) (I : MI s c r) : gMet l yX4_edges cX4_edges 1 ((some .int)) 1 20 0 0 D b0 (mh h0 D g s w a t b st ty) n [.ref (g 0)] (pI (fun r' h' n' => nI (m_ed c r) = r' ∧ (mh h0 D g s w a t b st ty) = h' ∧ n = n')) := by
  refine gMet.of (lv := [(0, _)]) (by decide) (Nat.le_of_ble_eq_true rfl) rfl ?_
  intro p_ e_ U0 m_ args_ below_ meth_ co_ C hr hlk hnm
  have hI := m_ed_le I
  obtain ⟨I0, I1, I2, I3, I4, I5⟩ := id I
  refine g_aload_n C dX4_edges_0 rfl 0 rfl ?_
  refine g_V0I C (met_X4_rowEdges G I) (cwV 0 C.2.2.2.2.1 (lw_V q1197 q1199 qs21 q79 q1200) rfl rfl rfl ok_X4_rowEdges ⟨(Nat.le_of_ble_eq_true rfl), (Nat.le_of_ble_eq_true rfl)⟩) (mh_0 G) rfl (Nat.le_of_ble_eq_true rfl) dX4_edges_1 ⟨(Nat.le_of_ble_eq_true rfl), (Nat.le_of_ble_eq_true rfl)⟩ (fun r_1 h_1 n_1 hp_1 hn_1 => ?_)
  obtain ⟨rfl, rfl, rfl⟩ := hp_1
  refine g_aload_n C dX4_edges_4 rfl 0 rfl ?_
  refine g_get C in_X4 (mh_0 G) rfl 0 (by decide) q1160 (fun _ hx => hx) rfl dX4_edges_5 ?_
  refine g_iconst C dX4_edges_8 kc_0 ?_
  refine g_ialdN C (mh_1 G) (by omega) (by omega) dX4_edges_9 ?_
  refine g_topi (y := nI (c)) I.1 ?_
  refine g_aload_n C dX4_edges_10 rfl 0 rfl ?_
  refine g_get C in_X4 (mh_0 G) rfl 0 (by decide) q1160 (fun _ hx => hx) rfl dX4_edges_11 ?_
  refine g_iconst C dX4_edges_14 kc_1 ?_
  refine g_ialdN C (mh_1 G) (by omega) (by omega) dX4_edges_15 ?_
  refine g_topi (y := nI (r)) I.2.1 ?_
  refine g_iconst C dX4_edges_16 kc_1 ?_
  refine g_isubN C dX4_edges_17 (by omega) ?_
  refine g_imulN C dX4_edges_18 ?_
  refine g_iaddN C dX4_edges_19 ?_
  exact g_iret C hr hlk dX4_edges_20 (Nat.le_of_ble_eq_true rfl) (Nat.le_of_ble_eq_true rfl) rfl ⟨_, rfl, ⟨rfl, rfl, rfl⟩⟩
theorem ok_X4_isEdge : yX4_isEdge.cls = "MapSheetsModel" ∧ yX4_isEdge.cls ≠ "java/lang/invoke/MethodHandle" ∧ yX4_isEdge.cls ≠ "java/lang/invoke/VarHandle" ∧ (parseMethodDescriptor yX4_isEdge.desc).map (fun d => d.parameters.length) = some 1 := by decide +kernel
set_option maxHeartbeats 4000000 in
set_option maxRecDepth 100000 in
theorem met_X4_isEdge {l : Launch} {D : va_G} {b0 n : Nat} {h0 : GH} {g : Nat → Nat} {s w a t b : Nat → Int32} {st ty : Int32} {c : Nat} {r : Nat} {x : Int32} (G : gM b0 g) (I : MI s c r) : gMet l yX4_isEdge cX4_isEdge 2 ((some .boolean)) 2 40 0 0 D b0 (mh h0 D g s w a t b st ty) n [.ref (g 0), .int x] (pI (fun r' h' n' => bI (isIn x (m_ed c r)) = r' ∧ (mh h0 D g s w a t b st ty) = h' ∧ n = n')) := by
  refine gMet.of (lv := [(0, _), (1, _)]) (by decide) (Nat.le_of_ble_eq_true rfl) rfl ?_
  intro p_ e_ U0 m_ args_ below_ meth_ co_ C hr hlk hnm
  have hI := m_ed_le I
  obtain ⟨I0, I1, I2, I3, I4, I5⟩ := id I
  refine g_iload_n C dX4_isEdge_0 rfl 1 rfl ?_
  refine g_if_lt (tgt := 16) C dX4_isEdge_1 (by decide) (fun c_1 => ?_) (fun c_1 => ?_)
  · refine g_iconst C dX4_isEdge_16 kc_0 ?_
    exact g_iret C hr hlk dX4_isEdge_17 (Nat.le_of_ble_eq_true rfl) (Nat.le_of_ble_eq_true rfl) rfl ⟨_, rfl, ⟨by first | exact (bI_t (isIn_t c_1 c_9)).symm | exact (bI_f (isIn_f0 c_1)).symm | exact (bI_f (isIn_f1 (by omega) c_9)).symm, rfl, rfl⟩⟩
  · refine g_iload_n C dX4_isEdge_4 rfl 1 rfl ?_
    refine g_aload_n C dX4_isEdge_5 rfl 0 rfl ?_
    refine g_V0I C (met_X4_edges G I) (cwV 0 C.2.2.2.2.1 (lw_V q1193 q1195 qs20 q79 q1196) rfl rfl rfl ok_X4_edges ⟨(Nat.le_of_ble_eq_true rfl), (Nat.le_of_ble_eq_true rfl)⟩) (mh_0 G) rfl (Nat.le_of_ble_eq_true rfl) dX4_isEdge_6 ⟨(Nat.le_of_ble_eq_true rfl), (Nat.le_of_ble_eq_true rfl)⟩ (fun r_6 h_6 n_6 hp_6 hn_6 => ?_)
    obtain ⟨rfl, rfl, rfl⟩ := hp_6
    refine g_icmp_ge (tgt := 16) C dX4_isEdge_9 (by decide) (fun c_9 => ?_) (fun c_9 => ?_)
    · refine g_iconst C dX4_isEdge_16 kc_0 ?_
      exact g_iret C hr hlk dX4_isEdge_17 (Nat.le_of_ble_eq_true rfl) (Nat.le_of_ble_eq_true rfl) rfl ⟨_, rfl, ⟨by first | exact (bI_t (isIn_t c_1 c_9)).symm | exact (bI_f (isIn_f0 c_1)).symm | exact (bI_f (isIn_f1 (by omega) c_9)).symm, rfl, rfl⟩⟩
    · refine g_iconst C dX4_isEdge_12 kc_1 ?_
      refine g_goto (tgt := 17) C dX4_isEdge_13 (by decide) ?_
      exact g_iret C hr hlk dX4_isEdge_17 (Nat.le_of_ble_eq_true rfl) (Nat.le_of_ble_eq_true rfl) rfl ⟨_, rfl, ⟨by first | exact (bI_t (isIn_t c_1 c_9)).symm | exact (bI_f (isIn_f0 c_1)).symm | exact (bI_f (isIn_f1 (by omega) c_9)).symm, rfl, rfl⟩⟩
