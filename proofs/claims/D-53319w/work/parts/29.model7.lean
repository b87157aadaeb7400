theorem ok_X4_publish : yX4_publish.cls = "MapSheetsModel" ∧ yX4_publish.cls ≠ "java/lang/invoke/MethodHandle" ∧ yX4_publish.cls ≠ "java/lang/invoke/VarHandle" ∧ (parseMethodDescriptor yX4_publish.desc).map (fun d => d.parameters.length) = some 1 := by decide +kernel
set_option maxHeartbeats 4000000 in
set_option maxRecDepth 100000 in
theorem met_X4_publish {l : Launch} {D : va_G} {b0 n : Nat} {h0 : GH} {g : Nat → Nat} {s w a t b : Nat → Int32} {ty : Int32} {c : Nat} {r : Nat} {q : Nat} {x : Int32} (G : gM b0 g) (I : MI s c r) (V : MV s) (hq : q ≤ 4) : gMet l yX4_publish cX4_publish 2 ((some .int)) 3 70 0 0 D b0 (mh h0 D g s w a t b (nI q) ty) n [.ref (g 0), .int x] (pI (fun r' h' n' => ∃ a' b', (sp_publish s c r x).1 = r' ∧ MR h0 D g (sp_publish s c r x) s w a' t b' q ty = h' ∧ n = n')) := by
  refine gMet.of (lv := [(0, _), (1, _)]) (by decide) (Nat.le_of_ble_eq_true rfl) rfl ?_
  intro p_ e_ U0 m_ args_ below_ meth_ co_ C hr hlk hnm
  have hI := m_ed_le I
  obtain ⟨I0, I1, I2, I3, I4, I5⟩ := id I
  refine g_aload_n C dX4_publish_0 rfl 0 rfl ?_
  refine g_iload_n C dX4_publish_1 rfl 1 rfl ?_
  refine g_V1I C (met_X4_isSheet G I) (cwV 1 C.2.2.2.2.1 (lw_V q1217 q1219 qs24 q79 q1220) rfl rfl rfl ok_X4_isSheet ⟨(Nat.le_of_ble_eq_true rfl), (Nat.le_of_ble_eq_true rfl)⟩) (mh_0 G) rfl (Nat.le_of_ble_eq_true rfl) dX4_publish_2 ⟨(Nat.le_of_ble_eq_true rfl), (Nat.le_of_ble_eq_true rfl)⟩ (fun r_2 h_2 n_2 hp_2 hn_2 => ?_)
  obtain ⟨rfl, rfl, rfl⟩ := hp_2
  refine g_if_neB (tgt := 10) C dX4_publish_5 (by decide) (fun c_5 => ?_) (fun c_5 => ?_)
  · obtain ⟨k, hk, rfl⟩ := isIn_ex c_5
    have hc1 : m_eof s c r k true ≤ 4 := cnt_le _ _
    have hc2 : m_eof s c r k false ≤ 4 := cnt_le _ _
    refine g_aload_n C dX4_publish_10 rfl 0 rfl ?_
    refine g_iload_n C dX4_publish_11 rfl 1 rfl ?_
    refine g_iconst C dX4_publish_12 kc_1 ?_
    refine g_V2I C (met_X4_edgesOf (ag := true) G I (by omega)) (cwV 2 C.2.2.2.2.1 (lw_V q1309 q1311 qs42 q79 q1312) rfl rfl rfl ok_X4_edgesOf ⟨(Nat.le_of_ble_eq_true rfl), (Nat.le_of_ble_eq_true rfl)⟩) (mh_0 G) rfl (Nat.le_of_ble_eq_true rfl) dX4_publish_13 ⟨(Nat.le_of_ble_eq_true rfl), (Nat.le_of_ble_eq_true rfl)⟩ (fun r_13 h_13 n_13 hp_13 hn_13 => ?_)
    obtain ⟨rfl, rfl, rfl⟩ := hp_13
    refine g_aload_n C dX4_publish_16 rfl 0 rfl ?_
    refine g_iload_n C dX4_publish_17 rfl 1 rfl ?_
    refine g_iconst C dX4_publish_18 kc_0 ?_
    refine g_V2I C (met_X4_edgesOf (ag := false) G I (by omega)) (cwV 2 C.2.2.2.2.1 (lw_V q1309 q1311 qs42 q79 q1312) rfl rfl rfl ok_X4_edgesOf ⟨(Nat.le_of_ble_eq_true rfl), (Nat.le_of_ble_eq_true rfl)⟩) (mh_0 G) rfl (Nat.le_of_ble_eq_true rfl) dX4_publish_19 ⟨(Nat.le_of_ble_eq_true rfl), (Nat.le_of_ble_eq_true rfl)⟩ (fun r_19 h_19 n_19 hp_19 hn_19 => ?_)
    obtain ⟨rfl, rfl, rfl⟩ := hp_19
    refine g_icmp_geN (tgt := 28) C dX4_publish_22 (by decide) (by omega) (by omega) (fun c_22 => ?_) (fun c_22 => ?_)
    · refine g_aload_n C dX4_publish_28 rfl 0 rfl ?_
      refine g_V0V C (met_X4_hold G) (cwV 0 C.2.2.2.2.1 (lw_V q1189 q1191 qs19 q79 q1192) rfl rfl rfl ok_X4_hold ⟨(Nat.le_of_ble_eq_true rfl), (Nat.le_of_ble_eq_true rfl)⟩) (mh_0 G) rfl (Nat.le_of_ble_eq_true rfl) dX4_publish_29 ⟨(Nat.le_of_ble_eq_true rfl), (Nat.le_of_ble_eq_true rfl)⟩ (fun h_29 n_29 hp_29 hn_29 => ?_)
      obtain ⟨rfl, rfl⟩ := hp_29
      refine g_aload_n C dX4_publish_32 rfl 0 rfl ?_
      refine g_iload_n C dX4_publish_33 rfl 1 rfl ?_
      refine g_bipush C dX4_publish_34 kb_51 ?_
      refine g_aload_n C dX4_publish_36 rfl 0 rfl ?_
      refine g_iload_n C dX4_publish_37 rfl 1 rfl ?_
      refine g_bipush C dX4_publish_38 kb_50 ?_
      refine g_V2I C (met_X4_of G (by omega) (by omega)) (cwV 2 C.2.2.2.2.1 (lw_V q1229 q1231 qs27 q79 q1232) rfl rfl rfl ok_X4_of ⟨(Nat.le_of_ble_eq_true rfl), (Nat.le_of_ble_eq_true rfl)⟩) (mh_0 G) rfl (Nat.le_of_ble_eq_true rfl) dX4_publish_40 ⟨(Nat.le_of_ble_eq_true rfl), (Nat.le_of_ble_eq_true rfl)⟩ (fun r_40 h_40 n_40 hp_40 hn_40 => ?_)
      obtain ⟨rfl, rfl, rfl⟩ := hp_40
      refine g_V3V C (met_X4_puts G (by omega) (by omega)) (cwV 3 C.2.2.2.2.1 (lw_V q1233 q1235 qs28 q79 q1236) rfl rfl rfl ok_X4_puts ⟨(Nat.le_of_ble_eq_true rfl), (Nat.le_of_ble_eq_true rfl)⟩) (mh_0 G) rfl (Nat.le_of_ble_eq_true rfl) dX4_publish_43 ⟨(Nat.le_of_ble_eq_true rfl), (Nat.le_of_ble_eq_true rfl)⟩ (fun h_43 n_43 hp_43 hn_43 => ?_)
      obtain ⟨rfl, rfl⟩ := hp_43
      refine g_aload_n C dX4_publish_46 rfl 0 rfl ?_
      refine g_aload_n C dX4_publish_47 rfl 0 rfl ?_
      refine g_iload_n C dX4_publish_48 rfl 1 rfl ?_
      refine g_bipush C dX4_publish_49 kb_50 ?_
      refine g_V2I C (met_X4_of G (by omega) (by omega)) (cwV 2 C.2.2.2.2.1 (lw_V q1229 q1231 qs27 q79 q1232) rfl rfl rfl ok_X4_of ⟨(Nat.le_of_ble_eq_true rfl), (Nat.le_of_ble_eq_true rfl)⟩) (mh_0 G) rfl (Nat.le_of_ble_eq_true rfl) dX4_publish_51 ⟨(Nat.le_of_ble_eq_true rfl), (Nat.le_of_ble_eq_true rfl)⟩ (fun r_51 h_51 n_51 hp_51 hn_51 => ?_)
      obtain ⟨rfl, rfl, rfl⟩ := hp_51
      refine g_V1I C (met_X4_records G (by omega)) (cwV 1 C.2.2.2.2.1 (lw_V q1201 q1203 qs22 q79 q1204) rfl rfl rfl ok_X4_records ⟨(Nat.le_of_ble_eq_true rfl), (Nat.le_of_ble_eq_true rfl)⟩) (mh_0 G) rfl (Nat.le_of_ble_eq_true rfl) dX4_publish_54 ⟨(Nat.le_of_ble_eq_true rfl), (Nat.le_of_ble_eq_true rfl)⟩ (fun r_54 h_54 n_54 hp_54 hn_54 => ?_)
      obtain ⟨rfl, rfl, rfl⟩ := hp_54
      have ho : sp_publish s c r (nI k) = (s (ix k 50), some (upd s (ix k 51) (s (ix k 50)))) := by unfold sp_publish; rw [if_pos c_5, tn_nI (k := k) (by omega), if_neg (by omega)]
      exact g_iret C hr hlk dX4_publish_57 (Nat.le_of_ble_eq_true rfl) (Nat.le_of_ble_eq_true rfl) rfl ⟨_, rfl, ⟨_, _, by rw [ho]; exact (upd_out (by show 64 + 53 * k + 50 ≠ 64 + 53 * k + 51; omega)).symm, by rw [m_rw_cp, ho]; rfl, rfl⟩⟩
    · refine g_bipush C dX4_publish_25 kb_m2 ?_
      have ho : sp_publish s c r (nI k) = (-2, none) := by unfold sp_publish; rw [if_pos c_5, tn_nI (k := k) (by omega), if_pos c_22]
      exact g_iret C hr hlk dX4_publish_27 (Nat.le_of_ble_eq_true rfl) (Nat.le_of_ble_eq_true rfl) rfl ⟨_, rfl, ⟨_, _, by rw [ho], by rw [ho]; rfl, rfl⟩⟩
  · refine g_iconst C dX4_publish_8 kc_m1 ?_
    have ho : sp_publish s c r x = (-1, none) := by unfold sp_publish; rw [c_5]; rfl
    exact g_iret C hr hlk dX4_publish_9 (Nat.le_of_ble_eq_true rfl) (Nat.le_of_ble_eq_true rfl) rfl ⟨_, rfl, ⟨_, _, by rw [ho], by rw [ho]; rfl, rfl⟩⟩
theorem ok_X4_scale : yX4_scale.cls = "MapSheetsModel" ∧ yX4_scale.cls ≠ "java/lang/invoke/MethodHandle" ∧ yX4_scale.cls ≠ "java/lang/invoke/VarHandle" ∧ (parseMethodDescriptor yX4_scale.desc).map (fun d => d.parameters.length) = some 2 := by decide +kernel
set_option maxHeartbeats 4000000 in
set_option maxRecDepth 100000 in
theorem met_X4_scale {l : Launch} {D : va_G} {b0 n : Nat} {h0 : GH} {g : Nat → Nat} {s w a t b : Nat → Int32} {ty : Int32} {c : Nat} {r : Nat} {q : Nat} {x : Int32} {y : Int32} (G : gM b0 g) (I : MI s c r) (V : MV s) (hq : q ≤ 4) : gMet l yX4_scale cX4_scale 4 ((some .int)) 2 41 0 0 D b0 (mh h0 D g s w a t b (nI q) ty) n [.ref (g 0), .int x, .int y] (pI (fun r' h' n' => ∃ a' b', (sp_scale s c r x y).1 = r' ∧ MR h0 D g (sp_scale s c r x y) s w a' t b' q ty = h' ∧ n = n')) := by
  refine gMet.of (lv := [(0, _), (1, _), (2, _)]) (by decide) (Nat.le_of_ble_eq_true rfl) rfl ?_
  intro p_ e_ U0 m_ args_ below_ meth_ co_ C hr hlk hnm
  have hI := m_ed_le I
  obtain ⟨I0, I1, I2, I3, I4, I5⟩ := id I
  refine g_aload_n C dX4_scale_0 rfl 0 rfl ?_
  refine g_iload_n C dX4_scale_1 rfl 1 rfl ?_
  refine g_V1I C (met_X4_isSheet G I) (cwV 1 C.2.2.2.2.1 (lw_V q1217 q1219 qs24 q79 q1220) rfl rfl rfl ok_X4_isSheet ⟨(Nat.le_of_ble_eq_true rfl), (Nat.le_of_ble_eq_true rfl)⟩) (mh_0 G) rfl (Nat.le_of_ble_eq_true rfl) dX4_scale_2 ⟨(Nat.le_of_ble_eq_true rfl), (Nat.le_of_ble_eq_true rfl)⟩ (fun r_2 h_2 n_2 hp_2 hn_2 => ?_)
  obtain ⟨rfl, rfl, rfl⟩ := hp_2
  refine g_if_eqB (tgt := 18) C dX4_scale_5 (by decide) (fun c_5 => ?_) (fun c_5 => ?_)
  · refine g_iconst C dX4_scale_18 kc_m1 ?_
    have ho : sp_scale s c r x y = (-1, none) := by unfold sp_scale; rw [c_5]; rfl
    exact g_iret C hr hlk dX4_scale_19 (Nat.le_of_ble_eq_true rfl) (Nat.le_of_ble_eq_true rfl) rfl ⟨_, rfl, ⟨_, _, by rw [ho], by rw [ho]; rfl, rfl⟩⟩
  · refine g_iload_n C dX4_scale_8 rfl 2 rfl ?_
    refine g_iconst C dX4_scale_9 kc_1 ?_
    refine g_ldc C q1420 dX4_scale_10 ?_
    refine g_topi (y := nI 1000000) rfl ?_
    refine g_S3I C (met_X4_in) (va_cwS 3 C.2.2.2.2.1 (lw_S q1186 q1187 q79 q1188) rfl rfl rfl ok_X4_in ⟨(Nat.le_of_ble_eq_true rfl), (Nat.le_of_ble_eq_true rfl)⟩) (Nat.le_of_ble_eq_true rfl) dX4_scale_12 ⟨(Nat.le_of_ble_eq_true rfl), (Nat.le_of_ble_eq_true rfl)⟩ (fun r_12 h_12 n_12 hp_12 hn_12 => ?_)
    obtain ⟨rfl, rfl, rfl⟩ := hp_12
    refine g_if_neB (tgt := 20) C dX4_scale_15 (by decide) (fun c_15 => ?_) (fun c_15 => ?_)
    · rw [in1_eq (by omega)] at c_15
      obtain ⟨k, hk, rfl⟩ := isIn_ex c_5
      refine g_aload_n C dX4_scale_20 rfl 0 rfl ?_
      refine g_V0V C (met_X4_hold G) (cwV 0 C.2.2.2.2.1 (lw_V q1189 q1191 qs19 q79 q1192) rfl rfl rfl ok_X4_hold ⟨(Nat.le_of_ble_eq_true rfl), (Nat.le_of_ble_eq_true rfl)⟩) (mh_0 G) rfl (Nat.le_of_ble_eq_true rfl) dX4_scale_21 ⟨(Nat.le_of_ble_eq_true rfl), (Nat.le_of_ble_eq_true rfl)⟩ (fun h_21 n_21 hp_21 hn_21 => ?_)
      obtain ⟨rfl, rfl⟩ := hp_21
      refine g_aload_n C dX4_scale_24 rfl 0 rfl ?_
      refine g_iload_n C dX4_scale_25 rfl 1 rfl ?_
      refine g_bipush C dX4_scale_26 kb_52 ?_
      refine g_V2I C (met_X4_of G (by omega) (by omega)) (cwV 2 C.2.2.2.2.1 (lw_V q1229 q1231 qs27 q79 q1232) rfl rfl rfl ok_X4_of ⟨(Nat.le_of_ble_eq_true rfl), (Nat.le_of_ble_eq_true rfl)⟩) (mh_0 G) rfl (Nat.le_of_ble_eq_true rfl) dX4_scale_28 ⟨(Nat.le_of_ble_eq_true rfl), (Nat.le_of_ble_eq_true rfl)⟩ (fun r_28 h_28 n_28 hp_28 hn_28 => ?_)
      obtain ⟨rfl, rfl, rfl⟩ := hp_28
      refine g_istore_n (lv' := [(3, _), (0, _), (1, _), (2, _)]) C dX4_scale_31 rfl (by decide) rfl ?_
      refine g_aload_n C dX4_scale_32 rfl 1 rfl ?_
      refine g_iload_n C dX4_scale_33 rfl 2 rfl ?_
      refine g_bipush C dX4_scale_34 kb_52 ?_
      refine g_iload_n C dX4_scale_36 rfl 3 rfl ?_
      refine g_V3V C (met_X4_puts G (by omega) (by omega)) (cwV 3 C.2.2.2.2.1 (lw_V q1233 q1235 qs28 q79 q1236) rfl rfl rfl ok_X4_puts ⟨(Nat.le_of_ble_eq_true rfl), (Nat.le_of_ble_eq_true rfl)⟩) (mh_0 G) rfl (Nat.le_of_ble_eq_true rfl) dX4_scale_37 ⟨(Nat.le_of_ble_eq_true rfl), (Nat.le_of_ble_eq_true rfl)⟩ (fun h_37 n_37 hp_37 hn_37 => ?_)
      obtain ⟨rfl, rfl⟩ := hp_37
      refine g_aload_n C dX4_scale_40 rfl 1 rfl ?_
      refine g_iload_n C dX4_scale_41 rfl 0 rfl ?_
      refine g_V1I C (met_X4_records G (by omega)) (cwV 1 C.2.2.2.2.1 (lw_V q1201 q1203 qs22 q79 q1204) rfl rfl rfl ok_X4_records ⟨(Nat.le_of_ble_eq_true rfl), (Nat.le_of_ble_eq_true rfl)⟩) (mh_0 G) rfl (Nat.le_of_ble_eq_true rfl) dX4_scale_42 ⟨(Nat.le_of_ble_eq_true rfl), (Nat.le_of_ble_eq_true rfl)⟩ (fun r_42 h_42 n_42 hp_42 hn_42 => ?_)
      obtain ⟨rfl, rfl, rfl⟩ := hp_42
      have ho : sp_scale s c r (nI k) y = (s (ix k 52), some (upd s (ix k 52) y)) := by unfold sp_scale; rw [c_5, c_15, tn_nI (k := k) (by omega)]; rfl
      exact g_iret C hr hlk dX4_scale_45 (Nat.le_of_ble_eq_true rfl) (Nat.le_of_ble_eq_true rfl) rfl ⟨_, rfl, ⟨_, _, by rw [ho], by rw [m_rw_cp, ho]; rfl, rfl⟩⟩
    · rw [in1_eq (by omega)] at c_15
      refine g_iconst C dX4_scale_18 kc_m1 ?_
      have ho : sp_scale s c r x y = (-1, none) := by unfold sp_scale; rw [c_5, c_15]; rfl
      exact g_iret C hr hlk dX4_scale_19 (Nat.le_of_ble_eq_true rfl) (Nat.le_of_ble_eq_true rfl) rfl ⟨_, rfl, ⟨_, _, by rw [ho], by rw [ho]; rfl, rfl⟩⟩
theorem ok_X4_type : yX4_type.cls = "MapSheetsModel" ∧ yX4_type.cls ≠ "java/lang/invoke/MethodHandle" ∧ yX4_type.cls ≠ "java/lang/invoke/VarHandle" ∧ (parseMethodDescriptor yX4_type.desc).map (fun d => d.parameters.length) = some 1 := by decide +kernel
set_option maxHeartbeats 4000000 in
set_option maxRecDepth 100000 in
theorem met_X4_type {l : Launch} {D : va_G} {b0 n : Nat} {h0 : GH} {g : Nat → Nat} {s w a t b : Nat → Int32} {st : Int32} {m : Nat} {x : Int32} (G : gM b0 g) (T : m ≤ 100) : gMet l yX4_type cX4_type 2 ((some .int)) 1 22 0 0 D b0 (mh h0 D g s w a t b st (nI m)) n [.ref (g 0), .int x] (pI (fun r' h' n' => ((decide (nI 32 ≤ x ∧ x ≤ nI 126) = false ∧ (-1 : Int32) = r' ∧ mh h0 D g s w a t b st (nI m) = h') ∨ (decide (nI 32 ≤ x ∧ x ≤ nI 126) = true ∧ m = 100 ∧ (-3 : Int32) = r' ∧ mh h0 D g s w a t b st (nI m) = h') ∨ (decide (nI 32 ≤ x ∧ x ≤ nI 126) = true ∧ m < 100 ∧ nI (m + 1) = r' ∧ mh h0 D g s w a (upd t m x) b st (nI (m + 1)) = h')) ∧ n = n')) := by
  refine gMet.of (lv := [(0, _), (1, _)]) (by decide) (Nat.le_of_ble_eq_true rfl) rfl ?_
  intro p_ e_ U0 m_ args_ below_ meth_ co_ C hr hlk hnm
  refine g_iload_n C dX4_type_0 rfl 1 rfl ?_
  refine g_bipush C dX4_type_1 kb_32 ?_
  refine g_bipush C dX4_type_3 kb_126 ?_
  refine g_S3I C (met_X4_in) (va_cwS 3 C.2.2.2.2.1 (lw_S q1186 q1187 q79 q1188) rfl rfl rfl ok_X4_in ⟨(Nat.le_of_ble_eq_true rfl), (Nat.le_of_ble_eq_true rfl)⟩) (Nat.le_of_ble_eq_true rfl) dX4_type_5 ⟨(Nat.le_of_ble_eq_true rfl), (Nat.le_of_ble_eq_true rfl)⟩ (fun r_5 h_5 n_5 hp_5 hn_5 => ?_)
  obtain ⟨rfl, rfl, rfl⟩ := hp_5
  refine g_if_neB (tgt := 13) C dX4_type_8 (by decide) (fun c_8 => ?_) (fun c_8 => ?_)
  · refine g_aload_n C dX4_type_13 rfl 0 rfl ?_
    refine g_get C in_X4 (mh_0 G) rfl 5 (by decide) q1165 (fun _ hx => hx) rfl dX4_type_14 ?_
    refine g_bipush C dX4_type_17 kb_100 ?_
    refine g_icmp_neN (tgt := 25) C dX4_type_19 (by decide) (by omega) (by omega) (fun c_19 => ?_) (fun c_19 => ?_)
    · refine g_aload_n C dX4_type_25 rfl 0 rfl ?_
      refine g_get C in_X4 (mh_0 G) rfl 4 (by decide) q1164 (fun _ hx => hx) rfl dX4_type_26 ?_
      refine g_aload_n C dX4_type_29 rfl 0 rfl ?_
      refine g_get C in_X4 (mh_0 G) rfl 5 (by decide) q1165 (fun _ hx => hx) rfl dX4_type_30 ?_
      refine g_iload_n C dX4_type_33 rfl 1 rfl ?_
      refine g_iastN C (mh_4 G) G.ge4 (by omega) (by omega) (mh_u4 G) dX4_type_34 ?_
      refine g_aload_n C dX4_type_35 rfl 0 rfl ?_
      refine g_dup C dX4_type_36 rfl ?_
      refine g_get C in_X4 (mh_0 G) rfl 5 (by decide) q1165 (fun _ hx => hx) rfl dX4_type_37 ?_
      refine g_iconst C dX4_type_40 kc_1 ?_
      refine g_iaddN C dX4_type_41 ?_
      refine g_put C in_X4 tyX4 tyX4_ok nmX4 (mh_0 G) G.ge0 rfl 5 (by decide) q1165 (fun _ hx => hx) rfl rfl rfl rfl (Nat.le_of_ble_eq_true rfl) (mh_t0 G) dX4_type_42 ?_
      refine g_aload_n C dX4_type_45 rfl 0 rfl ?_
      refine g_get C in_X4 (mh_0 G) rfl 5 (by decide) q1165 (fun _ hx => hx) rfl dX4_type_46 ?_
      exact g_iret C hr hlk dX4_type_49 (Nat.le_of_ble_eq_true rfl) (Nat.le_of_ble_eq_true rfl) rfl ⟨_, rfl, ⟨Or.inr (Or.inr ⟨c_8, by omega, rfl, rfl⟩), rfl⟩⟩
    · refine g_bipush C dX4_type_22 kb_m3 ?_
      exact g_iret C hr hlk dX4_type_24 (Nat.le_of_ble_eq_true rfl) (Nat.le_of_ble_eq_true rfl) rfl ⟨_, rfl, ⟨Or.inr (Or.inl ⟨c_8, c_19, rfl, rfl⟩), rfl⟩⟩
  · refine g_iconst C dX4_type_11 kc_m1 ?_
    exact g_iret C hr hlk dX4_type_12 (Nat.le_of_ble_eq_true rfl) (Nat.le_of_ble_eq_true rfl) rfl ⟨_, rfl, ⟨Or.inl ⟨c_8, rfl, rfl⟩, rfl⟩⟩
theorem ok_X4_clearText : yX4_clearText.cls = "MapSheetsModel" ∧ yX4_clearText.cls ≠ "java/lang/invoke/MethodHandle" ∧ yX4_clearText.cls ≠ "java/lang/invoke/VarHandle" ∧ (parseMethodDescriptor yX4_clearText.desc).map (fun d => d.parameters.length) = some 0 := by decide +kernel
set_option maxHeartbeats 4000000 in
set_option maxRecDepth 100000 in
theorem met_X4_clearText {l : Launch} {D : va_G} {b0 n : Nat} {h0 : GH} {g : Nat → Nat} {s w a t b : Nat → Int32} {st : Int32} {m : Nat}  (G : gM b0 g)  : gMet l yX4_clearText cX4_clearText 2 ((some .int)) 0 0 0 0 D b0 (mh h0 D g s w a t b st (nI m)) n [.ref (g 0)] (pI (fun r' h' n' => nI m = r' ∧ (mh h0 D g s w a t b st (nI 0)) = h' ∧ n = n')) := by
  refine gMet.of (lv := [(0, _)]) (by decide) (Nat.le_of_ble_eq_true rfl) rfl ?_
  intro p_ e_ U0 m_ args_ below_ meth_ co_ C hr hlk hnm
  refine g_aload_n C dX4_clearText_0 rfl 0 rfl ?_
  refine g_get C in_X4 (mh_0 G) rfl 5 (by decide) q1165 (fun _ hx => hx) rfl dX4_clearText_1 ?_
  refine g_istore_n (lv' := [(1, _), (0, _)]) C dX4_clearText_4 rfl (by decide) rfl ?_
  refine g_aload_n C dX4_clearText_5 rfl 1 rfl ?_
  refine g_iconst C dX4_clearText_6 kc_0 ?_
  refine g_put C in_X4 tyX4 tyX4_ok nmX4 (mh_0 G) G.ge0 rfl 5 (by decide) q1165 (fun _ hx => hx) rfl rfl rfl rfl (Nat.le_of_ble_eq_true rfl) (mh_t0 G) dX4_clearText_7 ?_
  refine g_iload_n C dX4_clearText_10 rfl 0 rfl ?_
  exact g_iret C hr hlk dX4_clearText_11 (Nat.le_of_ble_eq_true rfl) (Nat.le_of_ble_eq_true rfl) rfl ⟨_, rfl, ⟨rfl, rfl, rfl⟩⟩
theorem ok_X4_sideNamed : yX4_sideNamed.cls ≠ "java/lang/invoke/MethodHandle" ∧ yX4_sideNamed.cls ≠ "java/lang/invoke/VarHandle" ∧ (parseMethodDescriptor yX4_sideNamed.desc).map (fun d => d.parameters.length) = some 1 := by decide +kernel
set_option maxHeartbeats 4000000 in
set_option maxRecDepth 100000 in
theorem met_X4_sideNamed {l : Launch} {D : va_G} {b0 n : Nat} {h0 : GH} {x : Nat} (hx : x < 2 ^ 31) : gMet l yX4_sideNamed cX4_sideNamed 1 ((some .int)) 0 0 0 0 D b0 h0 n [.int (nI x)] (pI (fun r' h' n' => m_sn x = r' ∧ h0 = h' ∧ n = n')) := by
  refine gMet.of (lv := [(0, _)]) (by decide) (Nat.le_of_ble_eq_true rfl) rfl ?_
  intro p_ e_ U0 m_ args_ below_ meth_ co_ C hr hlk hnm
  refine g_iload_n C dX4_sideNamed_0 rfl 0 rfl ?_
  refine g_bipush C dX4_sideNamed_1 kb_110 ?_
  refine g_icmp_neN (tgt := 10) C dX4_sideNamed_3 (by decide) (by omega) (by omega) (fun c_3 => ?_) (fun c_3 => ?_)
  · refine g_iload_n C dX4_sideNamed_10 rfl 0 rfl ?_
    refine g_bipush C dX4_sideNamed_11 kb_101 ?_
    refine g_icmp_neN (tgt := 20) C dX4_sideNamed_13 (by decide) (by omega) (by omega) (fun c_13 => ?_) (fun c_13 => ?_)
    · refine g_iload_n C dX4_sideNamed_20 rfl 0 rfl ?_
      refine g_bipush C dX4_sideNamed_21 kb_115 ?_
      refine g_icmp_neN (tgt := 30) C dX4_sideNamed_23 (by decide) (by omega) (by omega) (fun c_23 => ?_) (fun c_23 => ?_)
      · refine g_iload_n C dX4_sideNamed_30 rfl 0 rfl ?_
        refine g_bipush C dX4_sideNamed_31 kb_119 ?_
        refine g_icmp_neN (tgt := 40) C dX4_sideNamed_33 (by decide) (by omega) (by omega) (fun c_33 => ?_) (fun c_33 => ?_)
        · refine g_bipush C dX4_sideNamed_40 kb_m4 ?_
          exact g_iret C hr hlk dX4_sideNamed_42 (Nat.le_of_ble_eq_true rfl) (Nat.le_of_ble_eq_true rfl) rfl ⟨_, rfl, ⟨by unfold m_sn t_sd; first | (simp only [c_3, c_13, c_23, c_33, if_true, if_false]; done) | (simp only [c_3, c_13, c_23, c_33, if_true, if_false]; rfl) | (simp only [c_3, c_13, c_23, if_true, if_false]; rfl) | (simp only [c_3, c_13, if_true, if_false]; rfl) | (simp only [c_3, if_true, if_false]; rfl), rfl, rfl⟩⟩
        · refine g_iconst C dX4_sideNamed_36 kc_3 ?_
          refine g_goto (tgt := 42) C dX4_sideNamed_37 (by decide) ?_
          exact g_iret C hr hlk dX4_sideNamed_42 (Nat.le_of_ble_eq_true rfl) (Nat.le_of_ble_eq_true rfl) rfl ⟨_, rfl, ⟨by unfold m_sn t_sd; first | (simp only [c_3, c_13, c_23, c_33, if_true, if_false]; done) | (simp only [c_3, c_13, c_23, c_33, if_true, if_false]; rfl) | (simp only [c_3, c_13, c_23, if_true, if_false]; rfl) | (simp only [c_3, c_13, if_true, if_false]; rfl) | (simp only [c_3, if_true, if_false]; rfl), rfl, rfl⟩⟩
      · refine g_iconst C dX4_sideNamed_26 kc_2 ?_
        refine g_goto (tgt := 42) C dX4_sideNamed_27 (by decide) ?_
        exact g_iret C hr hlk dX4_sideNamed_42 (Nat.le_of_ble_eq_true rfl) (Nat.le_of_ble_eq_true rfl) rfl ⟨_, rfl, ⟨by unfold m_sn t_sd; first | (simp only [c_3, c_13, c_23, c_33, if_true, if_false]; done) | (simp only [c_3, c_13, c_23, c_33, if_true, if_false]; rfl) | (simp only [c_3, c_13, c_23, if_true, if_false]; rfl) | (simp only [c_3, c_13, if_true, if_false]; rfl) | (simp only [c_3, if_true, if_false]; rfl), rfl, rfl⟩⟩
    · refine g_iconst C dX4_sideNamed_16 kc_1 ?_
      refine g_goto (tgt := 42) C dX4_sideNamed_17 (by decide) ?_
      exact g_iret C hr hlk dX4_sideNamed_42 (Nat.le_of_ble_eq_true rfl) (Nat.le_of_ble_eq_true rfl) rfl ⟨_, rfl, ⟨by unfold m_sn t_sd; first | (simp only [c_3, c_13, c_23, c_33, if_true, if_false]; done) | (simp only [c_3, c_13, c_23, c_33, if_true, if_false]; rfl) | (simp only [c_3, c_13, c_23, if_true, if_false]; rfl) | (simp only [c_3, c_13, if_true, if_false]; rfl) | (simp only [c_3, if_true, if_false]; rfl), rfl, rfl⟩⟩
  · refine g_iconst C dX4_sideNamed_6 kc_0 ?_
    refine g_goto (tgt := 42) C dX4_sideNamed_7 (by decide) ?_
    exact g_iret C hr hlk dX4_sideNamed_42 (Nat.le_of_ble_eq_true rfl) (Nat.le_of_ble_eq_true rfl) rfl ⟨_, rfl, ⟨by unfold m_sn t_sd; first | (simp only [c_3, c_13, c_23, c_33, if_true, if_false]; done) | (simp only [c_3, c_13, c_23, c_33, if_true, if_false]; rfl) | (simp only [c_3, c_13, c_23, if_true, if_false]; rfl) | (simp only [c_3, c_13, if_true, if_false]; rfl) | (simp only [c_3, if_true, if_false]; rfl), rfl, rfl⟩⟩
theorem ok_X4_isDigit : yX4_isDigit.cls = "MapSheetsModel" ∧ yX4_isDigit.cls ≠ "java/lang/invoke/MethodHandle" ∧ yX4_isDigit.cls ≠ "java/lang/invoke/VarHandle" ∧ (parseMethodDescriptor yX4_isDigit.desc).map (fun d => d.parameters.length) = some 1 := by decide +kernel
set_option maxHeartbeats 4000000 in
set_option maxRecDepth 100000 in
theorem met_X4_isDigit {l : Launch} {D : va_G} {b0 n : Nat} {h0 : GH} {g : Nat → Nat} {s w a t b : Nat → Int32} {st : Int32} {m : Nat} {j : Nat} (G : gM b0 g) (T : MT t m) (hj : j < 2 ^ 30) : gMet l yX4_isDigit cX4_isDigit 2 ((some .boolean)) 1 22 0 0 D b0 (mh h0 D g s w a t b st (nI m)) n [.ref (g 0), .int (nI j)] (pI (fun r' h' n' => bI (t_dg (tc t) m j) = r' ∧ (mh h0 D g s w a t b st (nI m)) = h' ∧ n = n')) := by
  refine gMet.of (lv := [(0, _), (1, _)]) (by decide) (Nat.le_of_ble_eq_true rfl) rfl ?_
  intro p_ e_ U0 m_ args_ below_ meth_ co_ C hr hlk hnm
  have T1 := T.1
  refine g_iload_n C dX4_isDigit_0 rfl 1 rfl ?_
  refine g_aload_n C dX4_isDigit_1 rfl 0 rfl ?_
  refine g_get C in_X4 (mh_0 G) rfl 5 (by decide) q1165 (fun _ hx => hx) rfl dX4_isDigit_2 ?_
  refine g_icmp_geN (tgt := 28) C dX4_isDigit_5 (by decide) (by omega) (by omega) (fun c_5 => ?_) (fun c_5 => ?_)
  · refine g_iconst C dX4_isDigit_28 kc_0 ?_
    exact g_iret C hr hlk dX4_isDigit_29 (Nat.le_of_ble_eq_true rfl) (Nat.le_of_ble_eq_true rfl) rfl ⟨_, rfl, ⟨(bI_f (decide_eq_false (by omega))).symm, rfl, rfl⟩⟩
  · refine g_aload_n C dX4_isDigit_8 rfl 0 rfl ?_
    refine g_get C in_X4 (mh_0 G) rfl 4 (by decide) q1164 (fun _ hx => hx) rfl dX4_isDigit_9 ?_
    refine g_iload_n C dX4_isDigit_12 rfl 1 rfl ?_
    refine g_ialdN C (mh_4 G) (by omega) (by omega) dX4_isDigit_13 ?_
    have Tj := T.2 j (by omega)
    refine g_topi (y := nI (tc t j)) (T.2 j (by omega)).1 ?_
    refine g_bipush C dX4_isDigit_14 kb_48 ?_
    refine g_bipush C dX4_isDigit_16 kb_57 ?_
    refine g_S3I C (met_X4_in) (va_cwS 3 C.2.2.2.2.1 (lw_S q1186 q1187 q79 q1188) rfl rfl rfl ok_X4_in ⟨(Nat.le_of_ble_eq_true rfl), (Nat.le_of_ble_eq_true rfl)⟩) (Nat.le_of_ble_eq_true rfl) dX4_isDigit_18 ⟨(Nat.le_of_ble_eq_true rfl), (Nat.le_of_ble_eq_true rfl)⟩ (fun r_18 h_18 n_18 hp_18 hn_18 => ?_)
    obtain ⟨rfl, rfl, rfl⟩ := hp_18
    refine g_if_eqB (tgt := 28) C dX4_isDigit_21 (by decide) (fun c_21 => ?_) (fun c_21 => ?_)
    · have c_22 := c_21
      rw [decide_eq_decide.mpr (and_congr (nI_leI (a := 48) (b := tc t j) (by omega) (by omega)) (nI_leI (a := tc t j) (b := 57) (by omega) (by omega)))] at c_22
      refine g_iconst C dX4_isDigit_28 kc_0 ?_
      exact g_iret C hr hlk dX4_isDigit_29 (Nat.le_of_ble_eq_true rfl) (Nat.le_of_ble_eq_true rfl) rfl ⟨_, rfl, ⟨(bI_f (decide_eq_false (fun z => of_decide_eq_false c_22 z.2))).symm, rfl, rfl⟩⟩
    · have c_22 := c_21
      rw [decide_eq_decide.mpr (and_congr (nI_leI (a := 48) (b := tc t j) (by omega) (by omega)) (nI_leI (a := tc t j) (b := 57) (by omega) (by omega)))] at c_22
      refine g_iconst C dX4_isDigit_24 kc_1 ?_
      refine g_goto (tgt := 29) C dX4_isDigit_25 (by decide) ?_
      exact g_iret C hr hlk dX4_isDigit_29 (Nat.le_of_ble_eq_true rfl) (Nat.le_of_ble_eq_true rfl) rfl ⟨_, rfl, ⟨(bI_t (decide_eq_true ⟨by omega, of_decide_eq_true c_22⟩)).symm, rfl, rfl⟩⟩
theorem ok_X4_isAt : yX4_isAt.cls = "MapSheetsModel" ∧ yX4_isAt.cls ≠ "java/lang/invoke/MethodHandle" ∧ yX4_isAt.cls ≠ "java/lang/invoke/VarHandle" ∧ (parseMethodDescriptor yX4_isAt.desc).map (fun d => d.parameters.length) = some 2 := by decide +kernel
set_option maxHeartbeats 4000000 in
set_option maxRecDepth 100000 in
theorem met_X4_isAt {l : Launch} {D : va_G} {b0 n : Nat} {h0 : GH} {g : Nat → Nat} {s w a t b : Nat → Int32} {st : Int32} {m : Nat} {j : Nat} {x : Nat} (G : gM b0 g) (T : MT t m) (hj : j < 2 ^ 30) (hx : x < 2 ^ 30) : gMet l yX4_isAt cX4_isAt 3 ((some .boolean)) 0 0 0 0 D b0 (mh h0 D g s w a t b st (nI m)) n [.ref (g 0), .int (nI j), .int (nI x)] (pI (fun r' h' n' => bI (t_at (tc t) m j x) = r' ∧ (mh h0 D g s w a t b st (nI m)) = h' ∧ n = n')) := by
  refine gMet.of (lv := [(0, _), (1, _), (2, _)]) (by decide) (Nat.le_of_ble_eq_true rfl) rfl ?_
  intro p_ e_ U0 m_ args_ below_ meth_ co_ C hr hlk hnm
  have T1 := T.1
  refine g_iload_n C dX4_isAt_0 rfl 1 rfl ?_
  refine g_aload_n C dX4_isAt_1 rfl 0 rfl ?_
  refine g_get C in_X4 (mh_0 G) rfl 5 (by decide) q1165 (fun _ hx => hx) rfl dX4_isAt_2 ?_
  refine g_icmp_geN (tgt := 22) C dX4_isAt_5 (by decide) (by omega) (by omega) (fun c_5 => ?_) (fun c_5 => ?_)
  · refine g_iconst C dX4_isAt_22 kc_0 ?_
    exact g_iret C hr hlk dX4_isAt_23 (Nat.le_of_ble_eq_true rfl) (Nat.le_of_ble_eq_true rfl) rfl ⟨_, rfl, ⟨by first | exact (bI_t (decide_eq_true (by omega))).symm | exact (bI_f (decide_eq_false (by omega))).symm, rfl, rfl⟩⟩
  · refine g_aload_n C dX4_isAt_8 rfl 0 rfl ?_
    refine g_get C in_X4 (mh_0 G) rfl 4 (by decide) q1164 (fun _ hx => hx) rfl dX4_isAt_9 ?_
    refine g_iload_n C dX4_isAt_12 rfl 1 rfl ?_
    refine g_ialdN C (mh_4 G) (by omega) (by omega) dX4_isAt_13 ?_
    have Tj := T.2 j (by omega)
    refine g_topi (y := nI (tc t j)) (T.2 j (by omega)).1 ?_
    refine g_iload_n C dX4_isAt_14 rfl 2 rfl ?_
    refine g_icmp_neN (tgt := 22) C dX4_isAt_15 (by decide) (by omega) (by omega) (fun c_15 => ?_) (fun c_15 => ?_)
    · refine g_iconst C dX4_isAt_22 kc_0 ?_
      exact g_iret C hr hlk dX4_isAt_23 (Nat.le_of_ble_eq_true rfl) (Nat.le_of_ble_eq_true rfl) rfl ⟨_, rfl, ⟨by first | exact (bI_t (decide_eq_true (by omega))).symm | exact (bI_f (decide_eq_false (by omega))).symm, rfl, rfl⟩⟩
    · refine g_iconst C dX4_isAt_18 kc_1 ?_
      refine g_goto (tgt := 23) C dX4_isAt_19 (by decide) ?_
      exact g_iret C hr hlk dX4_isAt_23 (Nat.le_of_ble_eq_true rfl) (Nat.le_of_ble_eq_true rfl) rfl ⟨_, rfl, ⟨by first | exact (bI_t (decide_eq_true (by omega))).symm | exact (bI_f (decide_eq_false (by omega))).symm, rfl, rfl⟩⟩
theorem ok_X4_itemAt : yX4_itemAt.cls = "MapSheetsModel" ∧ yX4_itemAt.cls ≠ "java/lang/invoke/MethodHandle" ∧ yX4_itemAt.cls ≠ "java/lang/invoke/VarHandle" ∧ (parseMethodDescriptor yX4_itemAt.desc).map (fun d => d.parameters.length) = some 1 := by decide +kernel
set_option maxHeartbeats 4000000 in
set_option maxRecDepth 100000 in
theorem met_X4_itemAt {l : Launch} {D : va_G} {b0 n : Nat} {h0 : GH} {g : Nat → Nat} {s w a t b : Nat → Int32} {st : Int32} {m : Nat} {j : Nat} (G : gM b0 g) (T : MT t m) (hj : j < m) : gMet l yX4_itemAt cX4_itemAt 2 ((some .int)) 2 43 0 0 D b0 (mh h0 D g s w a t b st (nI m)) n [.ref (g 0), .int (nI j)] (pI (fun r' h' n' => m_it (tc t) m j = r' ∧ (mh h0 D g s w a t b st (nI m)) = h' ∧ n = n')) := by
  refine gMet.of (lv := [(0, _), (1, _)]) (by decide) (Nat.le_of_ble_eq_true rfl) rfl ?_
  intro p_ e_ U0 m_ args_ below_ meth_ co_ C hr hlk hnm
  have T1 := T.1
  have Tj := T.2 j hj
  refine g_iload_n C dX4_itemAt_0 rfl 1 rfl ?_
  refine g_aload_n C dX4_itemAt_1 rfl 0 rfl ?_
  refine g_get C in_X4 (mh_0 G) rfl 5 (by decide) q1165 (fun _ hx => hx) rfl dX4_itemAt_2 ?_
  refine g_icmp_eqN (tgt := 22) C dX4_itemAt_5 (by decide) (by omega) (by omega) (fun c_5 => absurd c_5 (by omega)) (fun c_5 => ?_)
  refine g_aload_n C dX4_itemAt_8 rfl 0 rfl ?_
  refine g_get C in_X4 (mh_0 G) rfl 4 (by decide) q1164 (fun _ hx => hx) rfl dX4_itemAt_9 ?_
  refine g_iload_n C dX4_itemAt_12 rfl 1 rfl ?_
  refine g_ialdN C (mh_4 G) (by omega) (by omega) dX4_itemAt_13 ?_
  refine g_topi (y := nI (tc t j)) Tj.1 ?_
  refine g_S1I C (met_X4_sideNamed (by omega)) (va_cwS 1 C.2.2.2.2.1 (lw_S q1446 q1447 q79 q1448) rfl rfl rfl ok_X4_sideNamed ⟨(Nat.le_of_ble_eq_true rfl), (Nat.le_of_ble_eq_true rfl)⟩) (Nat.le_of_ble_eq_true rfl) dX4_itemAt_14 ⟨(Nat.le_of_ble_eq_true rfl), (Nat.le_of_ble_eq_true rfl)⟩ (fun r_14 h_14 n_14 hp_14 hn_14 => ?_)
  obtain ⟨rfl, rfl, rfl⟩ := hp_14
  refine g_bipush C dX4_itemAt_17 kb_m4 ?_
  refine g_icmp_ne (tgt := 24) C dX4_itemAt_19 (by decide) (fun c_19 => ?_) (fun c_19 => ?_)
  · have hs4 : (t_sd (tc t j) = 4) = False := by rw [eq_iff_iff, iff_false]; intro z; exact c_19 (by unfold m_sn; rw [if_pos z])
    refine g_aload_n C dX4_itemAt_24 rfl 0 rfl ?_
    refine g_iload_n C dX4_itemAt_25 rfl 1 rfl ?_
    refine g_iconst C dX4_itemAt_26 kc_1 ?_
    refine g_iaddN C dX4_itemAt_27 ?_
    refine g_V1I C (met_X4_isDigit G T (by omega)) (cwV 1 C.2.2.2.2.1 (lw_V q1449 q1451 qs60 q79 q1452) rfl rfl rfl ok_X4_isDigit ⟨(Nat.le_of_ble_eq_true rfl), (Nat.le_of_ble_eq_true rfl)⟩) (mh_0 G) rfl (Nat.le_of_ble_eq_true rfl) dX4_itemAt_28 ⟨(Nat.le_of_ble_eq_true rfl), (Nat.le_of_ble_eq_true rfl)⟩ (fun r_28 h_28 n_28 hp_28 hn_28 => ?_)
    obtain ⟨rfl, rfl, rfl⟩ := hp_28
    refine g_if_neB (tgt := 37) C dX4_itemAt_31 (by decide) (fun c_31 => ?_) (fun c_31 => ?_)
    · refine g_aload_n C dX4_itemAt_37 rfl 0 rfl ?_
      refine g_iload_n C dX4_itemAt_38 rfl 1 rfl ?_
      refine g_iconst C dX4_itemAt_39 kc_2 ?_
      refine g_iaddN C dX4_itemAt_40 ?_
      refine g_bipush C dX4_itemAt_41 kb_45 ?_
      refine g_V2I C (met_X4_isAt G T (by omega) (by omega)) (cwV 2 C.2.2.2.2.1 (lw_V q1453 q1455 qs61 q79 q1456) rfl rfl rfl ok_X4_isAt ⟨(Nat.le_of_ble_eq_true rfl), (Nat.le_of_ble_eq_true rfl)⟩) (mh_0 G) rfl (Nat.le_of_ble_eq_true rfl) dX4_itemAt_43 ⟨(Nat.le_of_ble_eq_true rfl), (Nat.le_of_ble_eq_true rfl)⟩ (fun r_43 h_43 n_43 hp_43 hn_43 => ?_)
      obtain ⟨rfl, rfl, rfl⟩ := hp_43
      refine g_if_eqB (tgt := 68) C dX4_itemAt_46 (by decide) (fun c_46 => ?_) (fun c_46 => ?_)
      · refine g_aload_n C dX4_itemAt_68 rfl 0 rfl ?_
        refine g_iload_n C dX4_itemAt_69 rfl 1 rfl ?_
        refine g_iconst C dX4_itemAt_70 kc_2 ?_
        refine g_iaddN C dX4_itemAt_71 ?_
        refine g_bipush C dX4_itemAt_72 kb_61 ?_
        refine g_V2I C (met_X4_isAt G T (by omega) (by omega)) (cwV 2 C.2.2.2.2.1 (lw_V q1453 q1455 qs61 q79 q1456) rfl rfl rfl ok_X4_isAt ⟨(Nat.le_of_ble_eq_true rfl), (Nat.le_of_ble_eq_true rfl)⟩) (mh_0 G) rfl (Nat.le_of_ble_eq_true rfl) dX4_itemAt_74 ⟨(Nat.le_of_ble_eq_true rfl), (Nat.le_of_ble_eq_true rfl)⟩ (fun r_74 h_74 n_74 hp_74 hn_74 => ?_)
        obtain ⟨rfl, rfl, rfl⟩ := hp_74
        refine g_if_neB (tgt := 83) C dX4_itemAt_77 (by decide) (fun c_77 => ?_) (fun c_77 => ?_)
        · refine g_aload_n C dX4_itemAt_83 rfl 0 rfl ?_
          refine g_iload_n C dX4_itemAt_84 rfl 1 rfl ?_
          refine g_iconst C dX4_itemAt_85 kc_3 ?_
          refine g_iaddN C dX4_itemAt_86 ?_
          refine g_V1I C (met_X4_isDigit G T (by omega)) (cwV 1 C.2.2.2.2.1 (lw_V q1449 q1451 qs60 q79 q1452) rfl rfl rfl ok_X4_isDigit ⟨(Nat.le_of_ble_eq_true rfl), (Nat.le_of_ble_eq_true rfl)⟩) (mh_0 G) rfl (Nat.le_of_ble_eq_true rfl) dX4_itemAt_87 ⟨(Nat.le_of_ble_eq_true rfl), (Nat.le_of_ble_eq_true rfl)⟩ (fun r_87 h_87 n_87 hp_87 hn_87 => ?_)
          obtain ⟨rfl, rfl, rfl⟩ := hp_87
          refine g_if_neB (tgt := 98) C dX4_itemAt_90 (by decide) (fun c_90 => ?_) (fun c_90 => ?_)
          · refine g_aload_n C dX4_itemAt_98 rfl 0 rfl ?_
            refine g_iload_n C dX4_itemAt_99 rfl 1 rfl ?_
            refine g_iconst C dX4_itemAt_100 kc_4 ?_
            refine g_iaddN C dX4_itemAt_101 ?_
            refine g_bipush C dX4_itemAt_102 kb_59 ?_
            refine g_V2I C (met_X4_isAt G T (by omega) (by omega)) (cwV 2 C.2.2.2.2.1 (lw_V q1453 q1455 qs61 q79 q1456) rfl rfl rfl ok_X4_isAt ⟨(Nat.le_of_ble_eq_true rfl), (Nat.le_of_ble_eq_true rfl)⟩) (mh_0 G) rfl (Nat.le_of_ble_eq_true rfl) dX4_itemAt_104 ⟨(Nat.le_of_ble_eq_true rfl), (Nat.le_of_ble_eq_true rfl)⟩ (fun r_104 h_104 n_104 hp_104 hn_104 => ?_)
            obtain ⟨rfl, rfl, rfl⟩ := hp_104
            refine g_if_eqB (tgt := 114) C dX4_itemAt_107 (by decide) (fun c_107 => ?_) (fun c_107 => ?_)
            · refine g_bipush C dX4_itemAt_114 kb_m5 ?_
              exact g_iret C hr hlk dX4_itemAt_116 (Nat.le_of_ble_eq_true rfl) (Nat.le_of_ble_eq_true rfl) rfl ⟨_, rfl, ⟨by unfold m_it t_ok t_fl; simp only [hs4, c_31, c_46, c_77, c_90, c_107, Bool.not_true, Bool.not_false, Bool.false_eq_true, if_true, if_false]; decide, rfl, rfl⟩⟩
            · refine g_iconst C dX4_itemAt_110 kc_5 ?_
              refine g_goto (tgt := 116) C dX4_itemAt_111 (by decide) ?_
              exact g_iret C hr hlk dX4_itemAt_116 (Nat.le_of_ble_eq_true rfl) (Nat.le_of_ble_eq_true rfl) rfl ⟨_, rfl, ⟨by unfold m_it t_ok t_fl; simp only [hs4, c_31, c_46, c_77, c_90, c_107, Bool.not_true, Bool.not_false, Bool.false_eq_true, if_true, if_false]; decide, rfl, rfl⟩⟩
          · refine g_bipush C dX4_itemAt_93 kb_m4 ?_
            refine g_goto (tgt := 116) C dX4_itemAt_95 (by decide) ?_
            exact g_iret C hr hlk dX4_itemAt_116 (Nat.le_of_ble_eq_true rfl) (Nat.le_of_ble_eq_true rfl) rfl ⟨_, rfl, ⟨by unfold m_it t_ok t_fl; simp only [hs4, c_31, c_46, c_77, c_90, Bool.not_true, Bool.not_false, Bool.false_eq_true, if_true, if_false]; decide, rfl, rfl⟩⟩
        · refine g_bipush C dX4_itemAt_80 kb_m3 ?_
          exact g_iret C hr hlk dX4_itemAt_82 (Nat.le_of_ble_eq_true rfl) (Nat.le_of_ble_eq_true rfl) rfl ⟨_, rfl, ⟨by unfold m_it t_ok t_fl; simp only [hs4, c_31, c_46, c_77, Bool.not_true, Bool.not_false, Bool.false_eq_true, if_true, if_false]; decide, rfl, rfl⟩⟩
      · refine g_aload_n C dX4_itemAt_49 rfl 0 rfl ?_
        refine g_iload_n C dX4_itemAt_50 rfl 1 rfl ?_
        refine g_iconst C dX4_itemAt_51 kc_3 ?_
        refine g_iaddN C dX4_itemAt_52 ?_
        refine g_bipush C dX4_itemAt_53 kb_59 ?_
        refine g_V2I C (met_X4_isAt G T (by omega) (by omega)) (cwV 2 C.2.2.2.2.1 (lw_V q1453 q1455 qs61 q79 q1456) rfl rfl rfl ok_X4_isAt ⟨(Nat.le_of_ble_eq_true rfl), (Nat.le_of_ble_eq_true rfl)⟩) (mh_0 G) rfl (Nat.le_of_ble_eq_true rfl) dX4_itemAt_55 ⟨(Nat.le_of_ble_eq_true rfl), (Nat.le_of_ble_eq_true rfl)⟩ (fun r_55 h_55 n_55 hp_55 hn_55 => ?_)
        obtain ⟨rfl, rfl, rfl⟩ := hp_55
        refine g_if_eqB (tgt := 65) C dX4_itemAt_58 (by decide) (fun c_58 => ?_) (fun c_58 => ?_)
        · refine g_bipush C dX4_itemAt_65 kb_m4 ?_
          exact g_iret C hr hlk dX4_itemAt_67 (Nat.le_of_ble_eq_true rfl) (Nat.le_of_ble_eq_true rfl) rfl ⟨_, rfl, ⟨by unfold m_it t_ok t_fl; simp only [hs4, c_31, c_46, c_58, Bool.not_true, Bool.not_false, Bool.false_eq_true, if_true, if_false]; decide, rfl, rfl⟩⟩
        · refine g_iconst C dX4_itemAt_61 kc_4 ?_
          refine g_goto (tgt := 67) C dX4_itemAt_62 (by decide) ?_
          exact g_iret C hr hlk dX4_itemAt_67 (Nat.le_of_ble_eq_true rfl) (Nat.le_of_ble_eq_true rfl) rfl ⟨_, rfl, ⟨by unfold m_it t_ok t_fl; simp only [hs4, c_31, c_46, c_58, Bool.not_true, Bool.not_false, Bool.false_eq_true, if_true, if_false]; decide, rfl, rfl⟩⟩
    · refine g_bipush C dX4_itemAt_34 kb_m2 ?_
      exact g_iret C hr hlk dX4_itemAt_36 (Nat.le_of_ble_eq_true rfl) (Nat.le_of_ble_eq_true rfl) rfl ⟨_, rfl, ⟨by unfold m_it t_ok t_fl; simp only [hs4, c_31, Bool.not_true, Bool.not_false, Bool.false_eq_true, if_true, if_false]; decide, rfl, rfl⟩⟩
  · have hs4 : (t_sd (tc t j) = 4) = True := by
      rw [eq_iff_iff, iff_true]
      unfold m_sn at c_19
      by_cases z : t_sd (tc t j) = 4
      · exact z
      · rw [if_neg z] at c_19; have := t_sd_le (tc t j); exact absurd c_19 (nI_ne_neg (by omega))
    refine g_iconst C dX4_itemAt_22 kc_m1 ?_
    exact g_iret C hr hlk dX4_itemAt_23 (Nat.le_of_ble_eq_true rfl) (Nat.le_of_ble_eq_true rfl) rfl ⟨_, rfl, ⟨by unfold m_it t_ok t_fl; simp only [hs4, Bool.not_true, Bool.not_false, Bool.false_eq_true, if_true, if_false]; decide, rfl, rfl⟩⟩
theorem ok_X4_faultAt : yX4_faultAt.cls = "MapSheetsModel" ∧ yX4_faultAt.cls ≠ "java/lang/invoke/MethodHandle" ∧ yX4_faultAt.cls ≠ "java/lang/invoke/VarHandle" ∧ (parseMethodDescriptor yX4_faultAt.desc).map (fun d => d.parameters.length) = some 0 := by decide +kernel
set_option maxHeartbeats 4000000 in
set_option maxRecDepth 100000 in
theorem met_X4_faultAt {l : Launch} {D : va_G} {b0 n : Nat} {h0 : GH} {g : Nat → Nat} {s w a t b : Nat → Int32} {st : Int32} {m : Nat}  (G : gM b0 g) (T : MT t m) : gMet l yX4_faultAt cX4_faultAt 3 ((some .int)) 3 64 0 0 D b0 (mh h0 D g s w a t b st (nI m)) n [.ref (g 0)] (pI (fun r' h' n' => m_ft (tc t) m = r' ∧ (mh h0 D g s w a t b st (nI m)) = h' ∧ n = n')) := by
  refine gMet.of (lv := [(0, _)]) (by decide) (Nat.le_of_ble_eq_true rfl) rfl ?_
  intro p_ e_ U0 m_ args_ below_ meth_ co_ C hr hlk hnm
  have T1 := T.1
  refine g_iconst C dX4_faultAt_0 kc_0 ?_
  refine g_istore_n (lv' := [(1, _), (0, _)]) C dX4_faultAt_1 rfl (by decide) rfl ?_
  have loop : ∀ (N_ i : Nat), i ≤ m → m < i + N_ → m_ft (tc t) m = t_ft (tc t) m N_ i → gW p_ l e_ (headSpec (ws_ yX4_faultAt cX4_faultAt 3 ((some .int))) (gRm 3 64 0 0)).room U0 m_ args_ below_ meth_ co_ (MQ below_ (gQc D b0 (pI (fun r' h' n' => m_ft (tc t) m = r' ∧ (mh h0 D g s w a t b st (nI m)) = h' ∧ n = n'))) args_ U0 0 0 (gA b0)) D b0 3 (mh h0 D g s w a t b st (nI m)) n 0 0 2 [(0, .ref (g 0)), (1, .int (nI i))] [] := by
    intro N_
    induction N_ with
    | zero => intro i h1_ h2_; exact absurd h2_ (by omega)
    | succ N_ ih =>
      intro i h1_ h2_ hinv
      refine g_iload_n C dX4_faultAt_2 rfl 1 rfl ?_
      refine g_aload_n C dX4_faultAt_3 rfl 0 rfl ?_
      refine g_get C in_X4 (mh_0 G) rfl 5 (by decide) q1165 (fun _ hx => hx) rfl dX4_faultAt_4 ?_
      refine g_icmp_geN (tgt := 33) C dX4_faultAt_7 (by decide) (by omega) (by omega) (fun c_7 => ?_) (fun c_7 => ?_)
      · refine g_bipush C dX4_faultAt_33 kb_m4 ?_
        exact g_iret C hr hlk dX4_faultAt_35 (Nat.le_of_ble_eq_true rfl) (Nat.le_of_ble_eq_true rfl) rfl ⟨_, rfl, ⟨by rw [hinv]; show (if _ then _ else _) = _; rw [if_neg (by omega)], rfl, rfl⟩⟩
      · refine g_aload_n C dX4_faultAt_10 rfl 0 rfl ?_
        refine g_iload_n C dX4_faultAt_11 rfl 1 rfl ?_
        refine g_V1I C (met_X4_itemAt G T (by omega)) (cwV 1 C.2.2.2.2.1 (lw_V q1442 q1444 qs59 q79 q1445) rfl rfl rfl ok_X4_itemAt ⟨(Nat.le_of_ble_eq_true rfl), (Nat.le_of_ble_eq_true rfl)⟩) (mh_0 G) rfl (Nat.le_of_ble_eq_true rfl) dX4_faultAt_12 ⟨(Nat.le_of_ble_eq_true rfl), (Nat.le_of_ble_eq_true rfl)⟩ (fun r_12 h_12 n_12 hp_12 hn_12 => ?_)
        obtain ⟨rfl, rfl, rfl⟩ := hp_12
        refine g_istore_n (lv' := [(2, _), (0, _), (1, _)]) C dX4_faultAt_15 rfl (by decide) rfl ?_
        refine g_iload_n C dX4_faultAt_16 rfl 0 rfl ?_
        refine g_if_ge (tgt := 26) C dX4_faultAt_17 (by decide) (fun c_17 => ?_) (fun c_17 => ?_)
        · have hk0 := m_it_cmp.mp c_17
          have hin := t_ok_in hk0
          rw [m_it_pos hk0]
          refine g_iload_n C dX4_faultAt_26 rfl 2 rfl ?_
          refine g_iload_n C dX4_faultAt_27 rfl 0 rfl ?_
          refine g_iaddN C dX4_faultAt_28 ?_
          refine g_istore_n (lv' := [(1, _), (2, _), (0, _)]) C dX4_faultAt_29 rfl (by decide) rfl ?_
          refine g_goto (tgt := 2) C dX4_faultAt_30 (by decide) ?_
          refine g_pick (lv' := [(0, _), (1, _)]) [2, 0] rfl ?_
          exact ih (i + t_ok (tc t) m i) (by omega) (by omega) (by rw [hinv]; show (if _ then _ else _) = _; rw [if_pos (by omega), if_neg hk0])
        · have hk0 : t_ok (tc t) m i = 0 := by
            by_cases z : t_ok (tc t) m i = 0
            · exact z
            · exact absurd (m_it_cmp.mpr z) c_17
          refine g_iload_n C dX4_faultAt_20 rfl 2 rfl ?_
          refine g_iload_n C dX4_faultAt_21 rfl 0 rfl ?_
          refine g_isub C dX4_faultAt_22 ?_
          refine g_iconst C dX4_faultAt_23 kc_1 ?_
          refine g_isub C dX4_faultAt_24 ?_
          exact g_iret C hr hlk dX4_faultAt_25 (Nat.le_of_ble_eq_true rfl) (Nat.le_of_ble_eq_true rfl) rfl ⟨_, rfl, ⟨by rw [hinv]; show (if _ then _ else _) = _; rw [if_pos (by omega), if_pos hk0, m_it_fault hk0], rfl, rfl⟩⟩
  refine g_pick (lv' := [(0, _), (1, _)]) [1, 0] rfl ?_
  exact loop 101 0 (by omega) (by omega) rfl
theorem ok_X4_fault : yX4_fault.cls = "MapSheetsModel" ∧ yX4_fault.cls ≠ "java/lang/invoke/MethodHandle" ∧ yX4_fault.cls ≠ "java/lang/invoke/VarHandle" ∧ (parseMethodDescriptor yX4_fault.desc).map (fun d => d.parameters.length) = some 0 := by decide +kernel
set_option maxHeartbeats 4000000 in
set_option maxRecDepth 100000 in
theorem met_X4_fault {l : Launch} {D : va_G} {b0 n : Nat} {h0 : GH} {g : Nat → Nat} {s w a t b : Nat → Int32} {st : Int32} {m : Nat}  (G : gM b0 g) (T : MT t m) : gMet l yX4_fault cX4_fault 1 ((some .int)) 4 86 0 0 D b0 (mh h0 D g s w a t b st (nI m)) n [.ref (g 0)] (pI (fun r' h' n' => m_ft (tc t) m = r' ∧ (mh h0 D g s w a t b st (nI m)) = h' ∧ n = n')) := by
  refine gMet.of (lv := [(0, _)]) (by decide) (Nat.le_of_ble_eq_true rfl) rfl ?_
  intro p_ e_ U0 m_ args_ below_ meth_ co_ C hr hlk hnm
  refine g_aload_n C dX4_fault_0 rfl 0 rfl ?_
  refine g_V0I C (met_X4_faultAt G T) (cwV 0 C.2.2.2.2.1 (lw_V q1438 q1440 qs58 q79 q1441) rfl rfl rfl ok_X4_faultAt ⟨(Nat.le_of_ble_eq_true rfl), (Nat.le_of_ble_eq_true rfl)⟩) (mh_0 G) rfl (Nat.le_of_ble_eq_true rfl) dX4_fault_1 ⟨(Nat.le_of_ble_eq_true rfl), (Nat.le_of_ble_eq_true rfl)⟩ (fun r_1 h_1 n_1 hp_1 hn_1 => ?_)
  obtain ⟨rfl, rfl, rfl⟩ := hp_1
  exact g_iret C hr hlk dX4_fault_4 (Nat.le_of_ble_eq_true rfl) (Nat.le_of_ble_eq_true rfl) rfl ⟨_, rfl, ⟨rfl, rfl, rfl⟩⟩
