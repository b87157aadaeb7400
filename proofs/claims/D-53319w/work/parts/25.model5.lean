theorem ok_X4_grid : yX4_grid.cls = "MapSheetsModel" ∧ yX4_grid.cls ≠ "java/lang/invoke/MethodHandle" ∧ yX4_grid.cls ≠ "java/lang/invoke/VarHandle" ∧ (parseMethodDescriptor yX4_grid.desc).map (fun d => d.parameters.length) = some 2 := by decide +kernel
set_option maxHeartbeats 4000000 in
set_option maxRecDepth 100000 in
theorem met_X4_grid {l : Launch} {D : va_G} {b0 n : Nat} {h0 : GH} {g : Nat → Nat} {s w a t b : Nat → Int32} {ty : Int32} {c : Nat} {r : Nat} {q : Nat} {x : Int32} {y : Int32} (G : gM b0 g) (I : MI s c r) (V : MV s) (hq : q ≤ 4) : gMet l yX4_grid cX4_grid 3 ((some .int)) 2 40 0 0 D b0 (mh h0 D g s w a t b (nI q) ty) n [.ref (g 0), .int x, .int y] (pI (fun r' h' n' => ∃ a' b', (sp_grid s x y).1 = r' ∧ MR h0 D g (sp_grid s x y) s w a' t b' q ty = h' ∧ n = n')) := by
  refine gMet.of (lv := [(0, _), (1, _), (2, _)]) (by decide) (Nat.le_of_ble_eq_true rfl) rfl ?_
  intro p_ e_ U0 m_ args_ below_ meth_ co_ C hr hlk hnm
  have hI := m_ed_le I
  obtain ⟨I0, I1, I2, I3, I4, I5⟩ := id I
  refine g_iload_n C dX4_grid_0 rfl 1 rfl ?_
  refine g_iconst C dX4_grid_1 kc_1 ?_
  refine g_bipush C dX4_grid_2 kb_6 ?_
  refine g_S3I C (met_X4_in) (va_cwS 3 C.2.2.2.2.1 (lw_S q1186 q1187 q79 q1188) rfl rfl rfl ok_X4_in ⟨(Nat.le_of_ble_eq_true rfl), (Nat.le_of_ble_eq_true rfl)⟩) (Nat.le_of_ble_eq_true rfl) dX4_grid_4 ⟨(Nat.le_of_ble_eq_true rfl), (Nat.le_of_ble_eq_true rfl)⟩ (fun r_4 h_4 n_4 hp_4 hn_4 => ?_)
  obtain ⟨rfl, rfl, rfl⟩ := hp_4
  refine g_if_eqB (tgt := 20) C dX4_grid_7 (by decide) (fun c_7 => ?_) (fun c_7 => ?_)
  · rw [in1_eq (by omega)] at c_7
    refine g_iconst C dX4_grid_20 kc_m1 ?_
    have ho : sp_grid s x y = (-1, none) := by unfold sp_grid; rw [c_7]; rfl
    exact g_iret C hr hlk dX4_grid_21 (Nat.le_of_ble_eq_true rfl) (Nat.le_of_ble_eq_true rfl) rfl ⟨_, rfl, ⟨_, _, by rw [ho], by rw [ho]; rfl, rfl⟩⟩
  · rw [in1_eq (by omega)] at c_7
    refine g_iload_n C dX4_grid_10 rfl 2 rfl ?_
    refine g_iconst C dX4_grid_11 kc_1 ?_
    refine g_bipush C dX4_grid_12 kb_6 ?_
    refine g_S3I C (met_X4_in) (va_cwS 3 C.2.2.2.2.1 (lw_S q1186 q1187 q79 q1188) rfl rfl rfl ok_X4_in ⟨(Nat.le_of_ble_eq_true rfl), (Nat.le_of_ble_eq_true rfl)⟩) (Nat.le_of_ble_eq_true rfl) dX4_grid_14 ⟨(Nat.le_of_ble_eq_true rfl), (Nat.le_of_ble_eq_true rfl)⟩ (fun r_14 h_14 n_14 hp_14 hn_14 => ?_)
    obtain ⟨rfl, rfl, rfl⟩ := hp_14
    refine g_if_neB (tgt := 22) C dX4_grid_17 (by decide) (fun c_17 => ?_) (fun c_17 => ?_)
    · rw [in1_eq (by omega)] at c_17
      obtain ⟨c9, hc1, hc2, rfl⟩ := isIn1_ex c_7
      obtain ⟨r9, hr1, hr2, rfl⟩ := isIn1_ex c_17
      have I9 : MI (m_beg s c9 r9) c9 r9 := ⟨rfl, rfl, hc1, hc2, hr1, hr2⟩
      refine g_aload_n C dX4_grid_22 rfl 0 rfl ?_
      refine g_V0V C (met_X4_hold G) (cwV 0 C.2.2.2.2.1 (lw_V q1189 q1191 qs19 q79 q1192) rfl rfl rfl ok_X4_hold ⟨(Nat.le_of_ble_eq_true rfl), (Nat.le_of_ble_eq_true rfl)⟩) (mh_0 G) rfl (Nat.le_of_ble_eq_true rfl) dX4_grid_23 ⟨(Nat.le_of_ble_eq_true rfl), (Nat.le_of_ble_eq_true rfl)⟩ (fun h_23 n_23 hp_23 hn_23 => ?_)
      obtain ⟨rfl, rfl⟩ := hp_23
      refine g_aload_n C dX4_grid_26 rfl 0 rfl ?_
      refine g_iload_n C dX4_grid_27 rfl 1 rfl ?_
      refine g_iload_n C dX4_grid_28 rfl 2 rfl ?_
      refine g_V2V C (met_X4_begins G ⟨by omega, by omega⟩ ⟨by omega, by omega⟩) (cwV 2 C.2.2.2.2.1 (lw_V q1156 q1158 qs18 q79 q1159) rfl rfl rfl ok_X4_begins ⟨(Nat.le_of_ble_eq_true rfl), (Nat.le_of_ble_eq_true rfl)⟩) (mh_0 G) rfl (Nat.le_of_ble_eq_true rfl) dX4_grid_29 ⟨(Nat.le_of_ble_eq_true rfl), (Nat.le_of_ble_eq_true rfl)⟩ (fun h_29 n_29 hp_29 hn_29 => ?_)
      obtain ⟨rfl, rfl⟩ := hp_29
      refine g_aload_n C dX4_grid_32 rfl 0 rfl ?_
      refine g_aload_n C dX4_grid_33 rfl 0 rfl ?_
      refine g_V0I C (met_X4_edges G I9) (cwV 0 C.2.2.2.2.1 (lw_V q1193 q1195 qs20 q79 q1196) rfl rfl rfl ok_X4_edges ⟨(Nat.le_of_ble_eq_true rfl), (Nat.le_of_ble_eq_true rfl)⟩) (mh_0 G) rfl (Nat.le_of_ble_eq_true rfl) dX4_grid_34 ⟨(Nat.le_of_ble_eq_true rfl), (Nat.le_of_ble_eq_true rfl)⟩ (fun r_34 h_34 n_34 hp_34 hn_34 => ?_)
      obtain ⟨rfl, rfl, rfl⟩ := hp_34
      refine g_V1I C (met_X4_records G (by omega)) (cwV 1 C.2.2.2.2.1 (lw_V q1201 q1203 qs22 q79 q1204) rfl rfl rfl ok_X4_records ⟨(Nat.le_of_ble_eq_true rfl), (Nat.le_of_ble_eq_true rfl)⟩) (mh_0 G) rfl (Nat.le_of_ble_eq_true rfl) dX4_grid_37 ⟨(Nat.le_of_ble_eq_true rfl), (Nat.le_of_ble_eq_true rfl)⟩ (fun r_37 h_37 n_37 hp_37 hn_37 => ?_)
      obtain ⟨rfl, rfl, rfl⟩ := hp_37
      have ho : sp_grid s (nI c9) (nI r9) = (nI (m_ed c9 r9), some (m_beg s c9 r9)) := by unfold sp_grid; rw [c_7, c_17, tn_nI (by omega), tn_nI (by omega)]; rfl
      exact g_iret C hr hlk dX4_grid_40 (Nat.le_of_ble_eq_true rfl) (Nat.le_of_ble_eq_true rfl) rfl ⟨_, rfl, ⟨_, _, by rw [ho], by rw [m_rw_cp, ho]; rfl, rfl⟩⟩
    · rw [in1_eq (by omega)] at c_17
      refine g_iconst C dX4_grid_20 kc_m1 ?_
      have ho : sp_grid s x y = (-1, none) := by unfold sp_grid; rw [c_7, c_17]; rfl
      exact g_iret C hr hlk dX4_grid_21 (Nat.le_of_ble_eq_true rfl) (Nat.le_of_ble_eq_true rfl) rfl ⟨_, rfl, ⟨_, _, by rw [ho], by rw [ho]; rfl, rfl⟩⟩
theorem ok_X4_set : yX4_set.cls = "MapSheetsModel" ∧ yX4_set.cls ≠ "java/lang/invoke/MethodHandle" ∧ yX4_set.cls ≠ "java/lang/invoke/VarHandle" ∧ (parseMethodDescriptor yX4_set.desc).map (fun d => d.parameters.length) = some 2 := by decide +kernel
set_option maxHeartbeats 4000000 in
set_option maxRecDepth 100000 in
theorem met_X4_set {l : Launch} {D : va_G} {b0 n : Nat} {h0 : GH} {g : Nat → Nat} {s w a t b : Nat → Int32} {ty : Int32} {c : Nat} {r : Nat} {q : Nat} {x : Int32} {y : Int32} (G : gM b0 g) (I : MI s c r) (V : MV s) (hq : q ≤ 4) : gMet l yX4_set cX4_set 4 ((some .int)) 1 22 0 0 D b0 (mh h0 D g s w a t b (nI q) ty) n [.ref (g 0), .int x, .int y] (pI (fun r' h' n' => ∃ a' b', (sp_set s x y).1 = r' ∧ MR h0 D g (sp_set s x y) s w a' t b' q ty = h' ∧ n = n')) := by
  refine gMet.of (lv := [(0, _), (1, _), (2, _)]) (by decide) (Nat.le_of_ble_eq_true rfl) rfl ?_
  intro p_ e_ U0 m_ args_ below_ meth_ co_ C hr hlk hnm
  have hI := m_ed_le I
  obtain ⟨I0, I1, I2, I3, I4, I5⟩ := id I
  refine g_iload_n C dX4_set_0 rfl 1 rfl ?_
  refine g_iconst C dX4_set_1 kc_0 ?_
  refine g_iconst C dX4_set_2 kc_1 ?_
  refine g_S3I C (met_X4_in) (va_cwS 3 C.2.2.2.2.1 (lw_S q1186 q1187 q79 q1188) rfl rfl rfl ok_X4_in ⟨(Nat.le_of_ble_eq_true rfl), (Nat.le_of_ble_eq_true rfl)⟩) (Nat.le_of_ble_eq_true rfl) dX4_set_3 ⟨(Nat.le_of_ble_eq_true rfl), (Nat.le_of_ble_eq_true rfl)⟩ (fun r_3 h_3 n_3 hp_3 hn_3 => ?_)
  obtain ⟨rfl, rfl, rfl⟩ := hp_3
  refine g_if_eqB (tgt := 28) C dX4_set_6 (by decide) (fun c_6 => ?_) (fun c_6 => ?_)
  · rw [in0_eq (by omega)] at c_6
    refine g_iconst C dX4_set_28 kc_m1 ?_
    have ho : sp_set s x y = (-1, none) := by unfold sp_set; rw [c_6]; rfl
    exact g_iret C hr hlk dX4_set_29 (Nat.le_of_ble_eq_true rfl) (Nat.le_of_ble_eq_true rfl) rfl ⟨_, rfl, ⟨_, _, by rw [ho], by rw [ho]; rfl, rfl⟩⟩
  · rw [in0_eq (by omega)] at c_6
    obtain ⟨k, hk, rfl⟩ := isIn_ex c_6
    refine g_iload_n C dX4_set_9 rfl 2 rfl ?_
    refine g_iconst C dX4_set_10 kc_0 ?_
    refine g_iload_n C dX4_set_11 rfl 1 rfl ?_
    refine g_if_neN (tgt := 19) C dX4_set_12 (by decide) (by omega) (fun c_12 => ?_) (fun c_12 => ?_)
    · have hx0 : (nI k = 0) = False := by rw [eq_iff_iff, iff_false]; exact nI_ne0 (by omega) (by omega)
      refine g_sipush C dX4_set_19 ks_1000 ?_
      refine g_S3I C (met_X4_in) (va_cwS 3 C.2.2.2.2.1 (lw_S q1186 q1187 q79 q1188) rfl rfl rfl ok_X4_in ⟨(Nat.le_of_ble_eq_true rfl), (Nat.le_of_ble_eq_true rfl)⟩) (Nat.le_of_ble_eq_true rfl) dX4_set_22 ⟨(Nat.le_of_ble_eq_true rfl), (Nat.le_of_ble_eq_true rfl)⟩ (fun r_22 h_22 n_22 hp_22 hn_22 => ?_)
      obtain ⟨rfl, rfl, rfl⟩ := hp_22
      refine g_if_neB (tgt := 30) C dX4_set_25 (by decide) (fun c_25 => ?_) (fun c_25 => ?_)
      · rw [in0_eq (by omega)] at c_25
        refine g_aload_n C dX4_set_30 rfl 0 rfl ?_
        refine g_V0V C (met_X4_hold G) (cwV 0 C.2.2.2.2.1 (lw_V q1189 q1191 qs19 q79 q1192) rfl rfl rfl ok_X4_hold ⟨(Nat.le_of_ble_eq_true rfl), (Nat.le_of_ble_eq_true rfl)⟩) (mh_0 G) rfl (Nat.le_of_ble_eq_true rfl) dX4_set_31 ⟨(Nat.le_of_ble_eq_true rfl), (Nat.le_of_ble_eq_true rfl)⟩ (fun h_31 n_31 hp_31 hn_31 => ?_)
        obtain ⟨rfl, rfl⟩ := hp_31
        refine g_aload_n C dX4_set_34 rfl 0 rfl ?_
        refine g_get C in_X4 (mh_0 G) rfl 0 (by decide) q1160 (fun _ hx => hx) rfl dX4_set_35 ?_
        refine g_iconst C dX4_set_38 kc_2 ?_
        refine g_iload_n C dX4_set_39 rfl 1 rfl ?_
        refine g_iaddN C dX4_set_40 ?_
        refine g_ialdN C (mh_1 G) (by omega) (by omega) dX4_set_41 ?_
        refine g_istore_n (lv' := [(3, _), (0, _), (1, _), (2, _)]) C dX4_set_42 rfl (by decide) rfl ?_
        refine g_aload_n C dX4_set_43 rfl 1 rfl ?_
        refine g_get C in_X4 (mh_0 G) rfl 0 (by decide) q1160 (fun _ hx => hx) rfl dX4_set_44 ?_
        refine g_iconst C dX4_set_47 kc_2 ?_
        refine g_iload_n C dX4_set_48 rfl 2 rfl ?_
        refine g_iaddN C dX4_set_49 ?_
        refine g_iload_n C dX4_set_50 rfl 3 rfl ?_
        refine g_iastN C (mh_1 G) G.ge1 (by omega) (by omega) (mh_u1 G) dX4_set_51 ?_
        refine g_aload_n C dX4_set_52 rfl 1 rfl ?_
        refine g_iload_n C dX4_set_53 rfl 0 rfl ?_
        refine g_V1I C (met_X4_records G (by omega)) (cwV 1 C.2.2.2.2.1 (lw_V q1201 q1203 qs22 q79 q1204) rfl rfl rfl ok_X4_records ⟨(Nat.le_of_ble_eq_true rfl), (Nat.le_of_ble_eq_true rfl)⟩) (mh_0 G) rfl (Nat.le_of_ble_eq_true rfl) dX4_set_54 ⟨(Nat.le_of_ble_eq_true rfl), (Nat.le_of_ble_eq_true rfl)⟩ (fun r_54 h_54 n_54 hp_54 hn_54 => ?_)
        obtain ⟨rfl, rfl, rfl⟩ := hp_54
        have ho : sp_set s (nI k) y = (s (2 + k), some (upd s (2 + k) y)) := by unfold sp_set; rw [tn_nI (by omega)]; simp only [hx0, c_6, c_25, if_false]; rfl
        exact g_iret C hr hlk dX4_set_57 (Nat.le_of_ble_eq_true rfl) (Nat.le_of_ble_eq_true rfl) rfl ⟨_, rfl, ⟨_, _, by rw [ho], by rw [m_rw_cp, ho]; rfl, rfl⟩⟩
      · rw [in0_eq (by omega)] at c_25
        refine g_iconst C dX4_set_28 kc_m1 ?_
        have ho : sp_set s (nI k) y = (-1, none) := by unfold sp_set; simp only [hx0, c_6, c_25, if_false]; rfl
        exact g_iret C hr hlk dX4_set_29 (Nat.le_of_ble_eq_true rfl) (Nat.le_of_ble_eq_true rfl) rfl ⟨_, rfl, ⟨_, _, by rw [ho], by rw [ho]; rfl, rfl⟩⟩
    · subst c_12
      refine g_iconst C dX4_set_15 kc_1 ?_
      refine g_goto (tgt := 22) C dX4_set_16 (by decide) ?_
      refine g_S3I C (met_X4_in) (va_cwS 3 C.2.2.2.2.1 (lw_S q1186 q1187 q79 q1188) rfl rfl rfl ok_X4_in ⟨(Nat.le_of_ble_eq_true rfl), (Nat.le_of_ble_eq_true rfl)⟩) (Nat.le_of_ble_eq_true rfl) dX4_set_22 ⟨(Nat.le_of_ble_eq_true rfl), (Nat.le_of_ble_eq_true rfl)⟩ (fun r_22 h_22 n_22 hp_22 hn_22 => ?_)
      obtain ⟨rfl, rfl, rfl⟩ := hp_22
      refine g_if_neB (tgt := 30) C dX4_set_25 (by decide) (fun c_25 => ?_) (fun c_25 => ?_)
      · rw [in0_eq (by omega)] at c_25
        refine g_aload_n C dX4_set_30 rfl 0 rfl ?_
        refine g_V0V C (met_X4_hold G) (cwV 0 C.2.2.2.2.1 (lw_V q1189 q1191 qs19 q79 q1192) rfl rfl rfl ok_X4_hold ⟨(Nat.le_of_ble_eq_true rfl), (Nat.le_of_ble_eq_true rfl)⟩) (mh_0 G) rfl (Nat.le_of_ble_eq_true rfl) dX4_set_31 ⟨(Nat.le_of_ble_eq_true rfl), (Nat.le_of_ble_eq_true rfl)⟩ (fun h_31 n_31 hp_31 hn_31 => ?_)
        obtain ⟨rfl, rfl⟩ := hp_31
        refine g_aload_n C dX4_set_34 rfl 0 rfl ?_
        refine g_get C in_X4 (mh_0 G) rfl 0 (by decide) q1160 (fun _ hx => hx) rfl dX4_set_35 ?_
        refine g_iconst C dX4_set_38 kc_2 ?_
        refine g_iload_n C dX4_set_39 rfl 1 rfl ?_
        refine g_iaddN C dX4_set_40 ?_
        refine g_ialdN C (mh_1 G) (by omega) (by omega) dX4_set_41 ?_
        refine g_istore_n (lv' := [(3, _), (0, _), (1, _), (2, _)]) C dX4_set_42 rfl (by decide) rfl ?_
        refine g_aload_n C dX4_set_43 rfl 1 rfl ?_
        refine g_get C in_X4 (mh_0 G) rfl 0 (by decide) q1160 (fun _ hx => hx) rfl dX4_set_44 ?_
        refine g_iconst C dX4_set_47 kc_2 ?_
        refine g_iload_n C dX4_set_48 rfl 2 rfl ?_
        refine g_iaddN C dX4_set_49 ?_
        refine g_iload_n C dX4_set_50 rfl 3 rfl ?_
        refine g_iastN C (mh_1 G) G.ge1 (by omega) (by omega) (mh_u1 G) dX4_set_51 ?_
        refine g_aload_n C dX4_set_52 rfl 1 rfl ?_
        refine g_iload_n C dX4_set_53 rfl 0 rfl ?_
        refine g_V1I C (met_X4_records G (by omega)) (cwV 1 C.2.2.2.2.1 (lw_V q1201 q1203 qs22 q79 q1204) rfl rfl rfl ok_X4_records ⟨(Nat.le_of_ble_eq_true rfl), (Nat.le_of_ble_eq_true rfl)⟩) (mh_0 G) rfl (Nat.le_of_ble_eq_true rfl) dX4_set_54 ⟨(Nat.le_of_ble_eq_true rfl), (Nat.le_of_ble_eq_true rfl)⟩ (fun r_54 h_54 n_54 hp_54 hn_54 => ?_)
        obtain ⟨rfl, rfl, rfl⟩ := hp_54
        have ho : sp_set s (nI 0) y = (s (2 + 0), some (upd s (2 + 0) y)) := by unfold sp_set; rw [tn_nI (by omega)]; simp only [c_6, c_25, nI_0, if_true]; rfl
        exact g_iret C hr hlk dX4_set_57 (Nat.le_of_ble_eq_true rfl) (Nat.le_of_ble_eq_true rfl) rfl ⟨_, rfl, ⟨_, _, by rw [ho], by rw [m_rw_cp, ho]; rfl, rfl⟩⟩
      · rw [in0_eq (by omega)] at c_25
        refine g_iconst C dX4_set_28 kc_m1 ?_
        have ho : sp_set s (nI 0) y = (-1, none) := by unfold sp_set; simp only [c_6, c_25, nI_0, if_true]; rfl
        exact g_iret C hr hlk dX4_set_29 (Nat.le_of_ble_eq_true rfl) (Nat.le_of_ble_eq_true rfl) rfl ⟨_, rfl, ⟨_, _, by rw [ho], by rw [ho]; rfl, rfl⟩⟩
theorem ok_X4_isPlace : yX4_isPlace.cls = "MapSheetsModel" ∧ yX4_isPlace.cls ≠ "java/lang/invoke/MethodHandle" ∧ yX4_isPlace.cls ≠ "java/lang/invoke/VarHandle" ∧ (parseMethodDescriptor yX4_isPlace.desc).map (fun d => d.parameters.length) = some 3 := by decide +kernel
set_option maxHeartbeats 4000000 in
set_option maxRecDepth 100000 in
theorem met_X4_isPlace {l : Launch} {D : va_G} {b0 n : Nat} {h0 : GH} {g : Nat → Nat} {s w a t b : Nat → Int32} {st ty : Int32} {c : Nat} {r : Nat} {x : Int32} {y : Int32} {z : Int32} (G : gM b0 g) (I : MI s c r) : gMet l yX4_isPlace cX4_isPlace 4 ((some .boolean)) 2 41 0 0 D b0 (mh h0 D g s w a t b st ty) n [.ref (g 0), .int x, .int y, .int z] (pI (fun r' h' n' => bI (isPl c r x y z) = r' ∧ (mh h0 D g s w a t b st ty) = h' ∧ n = n')) := by
  refine gMet.of (lv := [(0, _), (1, _), (2, _), (3, _)]) (by decide) (Nat.le_of_ble_eq_true rfl) rfl ?_
  intro p_ e_ U0 m_ args_ below_ meth_ co_ C hr hlk hnm
  have hI := m_ed_le I
  obtain ⟨I0, I1, I2, I3, I4, I5⟩ := id I
  refine g_aload_n C dX4_isPlace_0 rfl 0 rfl ?_
  refine g_iload_n C dX4_isPlace_1 rfl 1 rfl ?_
  refine g_V1I C (met_X4_isSheet G I) (cwV 1 C.2.2.2.2.1 (lw_V q1217 q1219 qs24 q79 q1220) rfl rfl rfl ok_X4_isSheet ⟨(Nat.le_of_ble_eq_true rfl), (Nat.le_of_ble_eq_true rfl)⟩) (mh_0 G) rfl (Nat.le_of_ble_eq_true rfl) dX4_isPlace_2 ⟨(Nat.le_of_ble_eq_true rfl), (Nat.le_of_ble_eq_true rfl)⟩ (fun r_2 h_2 n_2 hp_2 hn_2 => ?_)
  obtain ⟨rfl, rfl, rfl⟩ := hp_2
  refine g_if_eqB (tgt := 31) C dX4_isPlace_5 (by decide) (fun c_5 => ?_) (fun c_5 => ?_)
  · refine g_iconst C dX4_isPlace_31 kc_0 ?_
    exact g_iret C hr hlk dX4_isPlace_32 (Nat.le_of_ble_eq_true rfl) (Nat.le_of_ble_eq_true rfl) rfl ⟨_, rfl, ⟨by first | exact (bI_t (by unfold isPl; rw [c_5, c_14, c_24]; rfl)).symm | exact (bI_f (by unfold isPl; rw [c_5, c_14, c_24]; rfl)).symm | exact (bI_f (by unfold isPl; rw [c_5, c_14]; rfl)).symm | exact (bI_f (by unfold isPl; rw [c_5]; rfl)).symm, rfl, rfl⟩⟩
  · refine g_iload_n C dX4_isPlace_8 rfl 2 rfl ?_
    refine g_iconst C dX4_isPlace_9 kc_0 ?_
    refine g_iconst C dX4_isPlace_10 kc_3 ?_
    refine g_S3I C (met_X4_in) (va_cwS 3 C.2.2.2.2.1 (lw_S q1186 q1187 q79 q1188) rfl rfl rfl ok_X4_in ⟨(Nat.le_of_ble_eq_true rfl), (Nat.le_of_ble_eq_true rfl)⟩) (Nat.le_of_ble_eq_true rfl) dX4_isPlace_11 ⟨(Nat.le_of_ble_eq_true rfl), (Nat.le_of_ble_eq_true rfl)⟩ (fun r_11 h_11 n_11 hp_11 hn_11 => ?_)
    obtain ⟨rfl, rfl, rfl⟩ := hp_11
    refine g_if_eqB (tgt := 31) C dX4_isPlace_14 (by decide) (fun c_14 => ?_) (fun c_14 => ?_)
    · rw [in0_eq (by omega)] at c_14
      refine g_iconst C dX4_isPlace_31 kc_0 ?_
      exact g_iret C hr hlk dX4_isPlace_32 (Nat.le_of_ble_eq_true rfl) (Nat.le_of_ble_eq_true rfl) rfl ⟨_, rfl, ⟨by first | exact (bI_t (by unfold isPl; rw [c_5, c_14, c_24]; rfl)).symm | exact (bI_f (by unfold isPl; rw [c_5, c_14, c_24]; rfl)).symm | exact (bI_f (by unfold isPl; rw [c_5, c_14]; rfl)).symm | exact (bI_f (by unfold isPl; rw [c_5]; rfl)).symm, rfl, rfl⟩⟩
    · rw [in0_eq (by omega)] at c_14
      refine g_iload_n C dX4_isPlace_17 rfl 3 rfl ?_
      refine g_iconst C dX4_isPlace_18 kc_0 ?_
      refine g_bipush C dX4_isPlace_19 kb_9 ?_
      refine g_S3I C (met_X4_in) (va_cwS 3 C.2.2.2.2.1 (lw_S q1186 q1187 q79 q1188) rfl rfl rfl ok_X4_in ⟨(Nat.le_of_ble_eq_true rfl), (Nat.le_of_ble_eq_true rfl)⟩) (Nat.le_of_ble_eq_true rfl) dX4_isPlace_21 ⟨(Nat.le_of_ble_eq_true rfl), (Nat.le_of_ble_eq_true rfl)⟩ (fun r_21 h_21 n_21 hp_21 hn_21 => ?_)
      obtain ⟨rfl, rfl, rfl⟩ := hp_21
      refine g_if_eqB (tgt := 31) C dX4_isPlace_24 (by decide) (fun c_24 => ?_) (fun c_24 => ?_)
      · rw [in0_eq (by omega)] at c_24
        refine g_iconst C dX4_isPlace_31 kc_0 ?_
        exact g_iret C hr hlk dX4_isPlace_32 (Nat.le_of_ble_eq_true rfl) (Nat.le_of_ble_eq_true rfl) rfl ⟨_, rfl, ⟨by first | exact (bI_t (by unfold isPl; rw [c_5, c_14, c_24]; rfl)).symm | exact (bI_f (by unfold isPl; rw [c_5, c_14, c_24]; rfl)).symm | exact (bI_f (by unfold isPl; rw [c_5, c_14]; rfl)).symm | exact (bI_f (by unfold isPl; rw [c_5]; rfl)).symm, rfl, rfl⟩⟩
      · rw [in0_eq (by omega)] at c_24
        refine g_iconst C dX4_isPlace_27 kc_1 ?_
        refine g_goto (tgt := 32) C dX4_isPlace_28 (by decide) ?_
        exact g_iret C hr hlk dX4_isPlace_32 (Nat.le_of_ble_eq_true rfl) (Nat.le_of_ble_eq_true rfl) rfl ⟨_, rfl, ⟨by first | exact (bI_t (by unfold isPl; rw [c_5, c_14, c_24]; rfl)).symm | exact (bI_f (by unfold isPl; rw [c_5, c_14, c_24]; rfl)).symm | exact (bI_f (by unfold isPl; rw [c_5, c_14]; rfl)).symm | exact (bI_f (by unfold isPl; rw [c_5]; rfl)).symm, rfl, rfl⟩⟩
theorem ok_X4_show : yX4_show.cls = "MapSheetsModel" ∧ yX4_show.cls ≠ "java/lang/invoke/MethodHandle" ∧ yX4_show.cls ≠ "java/lang/invoke/VarHandle" ∧ (parseMethodDescriptor yX4_show.desc).map (fun d => d.parameters.length) = some 4 := by decide +kernel
set_option maxHeartbeats 4000000 in
set_option maxRecDepth 100000 in
theorem met_X4_show {l : Launch} {D : va_G} {b0 n : Nat} {h0 : GH} {g : Nat → Nat} {s w a t b : Nat → Int32} {ty : Int32} {c : Nat} {r : Nat} {q : Nat} {x : Int32} {y : Int32} {z : Int32} {v : Int32} (G : gM b0 g) (I : MI s c r) (V : MV s) (hq : q ≤ 4) : gMet l yX4_show cX4_show 6 ((some .int)) 8 183 0 0 D b0 (mh h0 D g s w a t b (nI q) ty) n [.ref (g 0), .int x, .int y, .int z, .int v] (pI (fun r' h' n' => ∃ a' b', (sp_show s c r x y z v).1 = r' ∧ MR h0 D g (sp_show s c r x y z v) s w a' t b' q ty = h' ∧ n = n')) := by
  refine gMet.of (lv := [(0, _), (1, _), (2, _), (3, _), (4, _)]) (by decide) (Nat.le_of_ble_eq_true rfl) rfl ?_
  intro p_ e_ U0 m_ args_ below_ meth_ co_ C hr hlk hnm
  have hI := m_ed_le I
  obtain ⟨I0, I1, I2, I3, I4, I5⟩ := id I
  refine g_aload_n C dX4_show_0 rfl 0 rfl ?_
  refine g_iload_n C dX4_show_1 rfl 1 rfl ?_
  refine g_iload_n C dX4_show_2 rfl 2 rfl ?_
  refine g_iload_n C dX4_show_3 rfl 3 rfl ?_
  refine g_V3I C (met_X4_isPlace G I) (cwV 3 C.2.2.2.2.1 (lw_V q1213 q1215 qs23 q79 q1216) rfl rfl rfl ok_X4_isPlace ⟨(Nat.le_of_ble_eq_true rfl), (Nat.le_of_ble_eq_true rfl)⟩) (mh_0 G) rfl (Nat.le_of_ble_eq_true rfl) dX4_show_4 ⟨(Nat.le_of_ble_eq_true rfl), (Nat.le_of_ble_eq_true rfl)⟩ (fun r_4 h_4 n_4 hp_4 hn_4 => ?_)
  obtain ⟨rfl, rfl, rfl⟩ := hp_4
  refine g_if_eqB (tgt := 21) C dX4_show_7 (by decide) (fun c_7 => ?_) (fun c_7 => ?_)
  · refine g_iconst C dX4_show_21 kc_m1 ?_
    have ho : sp_show s c r x y z v = (-1, none) := by unfold sp_show; rw [c_7]; rfl
    exact g_iret C hr hlk dX4_show_22 (Nat.le_of_ble_eq_true rfl) (Nat.le_of_ble_eq_true rfl) rfl ⟨_, rfl, ⟨_, _, by rw [ho], by rw [ho]; rfl, rfl⟩⟩
  · refine g_iload C dX4_show_10 4 rfl ?_
    refine g_iconst C dX4_show_12 kc_0 ?_
    refine g_bipush C dX4_show_13 kb_9 ?_
    refine g_S3I C (met_X4_in) (va_cwS 3 C.2.2.2.2.1 (lw_S q1186 q1187 q79 q1188) rfl rfl rfl ok_X4_in ⟨(Nat.le_of_ble_eq_true rfl), (Nat.le_of_ble_eq_true rfl)⟩) (Nat.le_of_ble_eq_true rfl) dX4_show_15 ⟨(Nat.le_of_ble_eq_true rfl), (Nat.le_of_ble_eq_true rfl)⟩ (fun r_15 h_15 n_15 hp_15 hn_15 => ?_)
    obtain ⟨rfl, rfl, rfl⟩ := hp_15
    refine g_if_neB (tgt := 23) C dX4_show_18 (by decide) (fun c_18 => ?_) (fun c_18 => ?_)
    · rw [in0_eq (by omega)] at c_18
      have hpl := c_7
      unfold isPl at hpl
      simp only [Bool.and_eq_true] at hpl
      obtain ⟨k, hk, rfl⟩ := isIn_ex hpl.1.1
      obtain ⟨d, hd, rfl⟩ := isIn_ex hpl.1.2
      obtain ⟨z9, hz, rfl⟩ := isIn_ex hpl.2
      obtain ⟨u9, hu, rfl⟩ := isIn_ex c_18
      have S9 : MV (upd s (ix k (10 * d + z9)) (nI u9)) := V.put1 (by omega) (by omega) (by omega)
      have I9 : MI (upd s (ix k (10 * d + z9)) (nI u9)) c r := I.congr (upd_lo (by omega)) (upd_lo (by omega))
      
      refine g_aload_n C dX4_show_23 rfl 0 rfl ?_
      refine g_V0V C (met_X4_hold G) (cwV 0 C.2.2.2.2.1 (lw_V q1189 q1191 qs19 q79 q1192) rfl rfl rfl ok_X4_hold ⟨(Nat.le_of_ble_eq_true rfl), (Nat.le_of_ble_eq_true rfl)⟩) (mh_0 G) rfl (Nat.le_of_ble_eq_true rfl) dX4_show_24 ⟨(Nat.le_of_ble_eq_true rfl), (Nat.le_of_ble_eq_true rfl)⟩ (fun h_24 n_24 hp_24 hn_24 => ?_)
      obtain ⟨rfl, rfl⟩ := hp_24
      refine g_aload_n C dX4_show_27 rfl 0 rfl ?_
      refine g_iload_n C dX4_show_28 rfl 1 rfl ?_
      refine g_iload_n C dX4_show_29 rfl 2 rfl ?_
      refine g_iload_n C dX4_show_30 rfl 3 rfl ?_
      refine g_V3I C (met_X4_signAt G (by omega) (by omega) (by omega)) (cwV 3 C.2.2.2.2.1 (lw_V q1225 q1227 qs26 q79 q1228) rfl rfl rfl ok_X4_signAt ⟨(Nat.le_of_ble_eq_true rfl), (Nat.le_of_ble_eq_true rfl)⟩) (mh_0 G) rfl (Nat.le_of_ble_eq_true rfl) dX4_show_31 ⟨(Nat.le_of_ble_eq_true rfl), (Nat.le_of_ble_eq_true rfl)⟩ (fun r_31 h_31 n_31 hp_31 hn_31 => ?_)
      obtain ⟨rfl, rfl, rfl⟩ := hp_31
      refine g_istore (lv' := [(5, _), (0, _), (1, _), (2, _), (3, _), (4, _)]) C dX4_show_34 (by decide) rfl ?_
      refine g_aload_n C dX4_show_36 rfl 1 rfl ?_
      refine g_iload_n C dX4_show_37 rfl 2 rfl ?_
      refine g_bipush C dX4_show_38 kb_10 ?_
      refine g_iload_n C dX4_show_40 rfl 3 rfl ?_
      refine g_imulN C dX4_show_41 ?_
      refine g_iload_n C dX4_show_42 rfl 4 rfl ?_
      refine g_iaddN C dX4_show_43 ?_
      refine g_iload C dX4_show_44 5 rfl ?_
      refine g_V3V C (met_X4_puts G (by omega) (by omega)) (cwV 3 C.2.2.2.2.1 (lw_V q1233 q1235 qs28 q79 q1236) rfl rfl rfl ok_X4_puts ⟨(Nat.le_of_ble_eq_true rfl), (Nat.le_of_ble_eq_true rfl)⟩) (mh_0 G) rfl (Nat.le_of_ble_eq_true rfl) dX4_show_46 ⟨(Nat.le_of_ble_eq_true rfl), (Nat.le_of_ble_eq_true rfl)⟩ (fun h_46 n_46 hp_46 hn_46 => ?_)
      obtain ⟨rfl, rfl⟩ := hp_46
      refine g_aload_n C dX4_show_49 rfl 1 rfl ?_
      refine g_iload_n C dX4_show_50 rfl 2 rfl ?_
      refine g_iconst C dX4_show_51 kc_1 ?_
      refine g_topi (y := bI (true)) (show nI 1 = bI true by decide) ?_
      refine g_iload C dX4_show_52 0 rfl ?_
      refine g_V3I C (met_X4_keeps (rv := true) G I9 S9 (by omega) (by omega)) (cwV 3 C.2.2.2.2.1 (lw_V q1237 q1239 qs29 q79 q1240) rfl rfl rfl ok_X4_keeps ⟨(Nat.le_of_ble_eq_true rfl), (Nat.le_of_ble_eq_true rfl)⟩) (mh_0 G) rfl (Nat.le_of_ble_eq_true rfl) dX4_show_54 ⟨(Nat.le_of_ble_eq_true rfl), (Nat.le_of_ble_eq_true rfl)⟩ (fun r_54 h_54 n_54 hp_54 hn_54 => ?_)
      obtain ⟨rfl, rfl, rfl⟩ := hp_54
      have ho : sp_show s c r (nI k) (nI d) (nI z9) (nI u9) = sp_keep (upd s (ix k (10 * d + z9)) (nI u9)) c r k true (s (ix k (10 * d + z9))) := by unfold sp_show; rw [c_7, c_18, tn_nI (k := k) (by omega), tn_nI (k := d) (by omega), tn_nI (k := z9) (by omega)]; rfl
      exact g_iret C hr hlk dX4_show_57 (Nat.le_of_ble_eq_true rfl) (Nat.le_of_ble_eq_true rfl) rfl ⟨_, rfl, ⟨_, _, by rw [ho, sp_keep_1], by rw [ho, sp_keep_2 hI.1 (fun x hx => upd_far (by omega) (by omega) hx)], rfl⟩⟩
    · rw [in0_eq (by omega)] at c_18
      refine g_iconst C dX4_show_21 kc_m1 ?_
      have ho : sp_show s c r x y z v = (-1, none) := by unfold sp_show; rw [c_7, c_18]; rfl
      exact g_iret C hr hlk dX4_show_22 (Nat.le_of_ble_eq_true rfl) (Nat.le_of_ble_eq_true rfl) rfl ⟨_, rfl, ⟨_, _, by rw [ho], by rw [ho]; rfl, rfl⟩⟩
theorem ok_X4_erase : yX4_erase.cls = "MapSheetsModel" ∧ yX4_erase.cls ≠ "java/lang/invoke/MethodHandle" ∧ yX4_erase.cls ≠ "java/lang/invoke/VarHandle" ∧ (parseMethodDescriptor yX4_erase.desc).map (fun d => d.parameters.length) = some 3 := by decide +kernel
set_option maxHeartbeats 4000000 in
set_option maxRecDepth 100000 in
theorem met_X4_erase {l : Launch} {D : va_G} {b0 n : Nat} {h0 : GH} {g : Nat → Nat} {s w a t b : Nat → Int32} {ty : Int32} {c : Nat} {r : Nat} {q : Nat} {x : Int32} {y : Int32} {z : Int32} (G : gM b0 g) (I : MI s c r) (V : MV s) (hq : q ≤ 4) : gMet l yX4_erase cX4_erase 5 ((some .int)) 8 183 0 0 D b0 (mh h0 D g s w a t b (nI q) ty) n [.ref (g 0), .int x, .int y, .int z] (pI (fun r' h' n' => ∃ a' b', (sp_erase s c r x y z).1 = r' ∧ MR h0 D g (sp_erase s c r x y z) s w a' t b' q ty = h' ∧ n = n')) := by
  refine gMet.of (lv := [(0, _), (1, _), (2, _), (3, _)]) (by decide) (Nat.le_of_ble_eq_true rfl) rfl ?_
  intro p_ e_ U0 m_ args_ below_ meth_ co_ C hr hlk hnm
  have hI := m_ed_le I
  obtain ⟨I0, I1, I2, I3, I4, I5⟩ := id I
  refine g_aload_n C dX4_erase_0 rfl 0 rfl ?_
  refine g_iload_n C dX4_erase_1 rfl 1 rfl ?_
  refine g_iload_n C dX4_erase_2 rfl 2 rfl ?_
  refine g_iload_n C dX4_erase_3 rfl 3 rfl ?_
  refine g_V3I C (met_X4_isPlace G I) (cwV 3 C.2.2.2.2.1 (lw_V q1213 q1215 qs23 q79 q1216) rfl rfl rfl ok_X4_isPlace ⟨(Nat.le_of_ble_eq_true rfl), (Nat.le_of_ble_eq_true rfl)⟩) (mh_0 G) rfl (Nat.le_of_ble_eq_true rfl) dX4_erase_4 ⟨(Nat.le_of_ble_eq_true rfl), (Nat.le_of_ble_eq_true rfl)⟩ (fun r_4 h_4 n_4 hp_4 hn_4 => ?_)
  obtain ⟨rfl, rfl, rfl⟩ := hp_4
  refine g_if_neB (tgt := 12) C dX4_erase_7 (by decide) (fun c_7 => ?_) (fun c_7 => ?_)
  · have hpl := c_7
    unfold isPl at hpl
    simp only [Bool.and_eq_true] at hpl
    obtain ⟨k, hk, rfl⟩ := isIn_ex hpl.1.1
    obtain ⟨d, hd, rfl⟩ := isIn_ex hpl.1.2
    obtain ⟨z9, hz, rfl⟩ := isIn_ex hpl.2
    have v1 := V.1 k (by omega) (10 * d + z9) (by omega)
    have S9 : MV (upd s (ix k (10 * d + z9)) (nI 10)) := V.put1 (by omega) (by omega) (by omega)
    have I9 : MI (upd s (ix k (10 * d + z9)) (nI 10)) c r := I.congr (upd_lo (by omega)) (upd_lo (by omega))
    
    refine g_aload_n C dX4_erase_12 rfl 0 rfl ?_
    refine g_iload_n C dX4_erase_13 rfl 1 rfl ?_
    refine g_iload_n C dX4_erase_14 rfl 2 rfl ?_
    refine g_iload_n C dX4_erase_15 rfl 3 rfl ?_
    refine g_V3I C (met_X4_signAt G (by omega) (by omega) (by omega)) (cwV 3 C.2.2.2.2.1 (lw_V q1225 q1227 qs26 q79 q1228) rfl rfl rfl ok_X4_signAt ⟨(Nat.le_of_ble_eq_true rfl), (Nat.le_of_ble_eq_true rfl)⟩) (mh_0 G) rfl (Nat.le_of_ble_eq_true rfl) dX4_erase_16 ⟨(Nat.le_of_ble_eq_true rfl), (Nat.le_of_ble_eq_true rfl)⟩ (fun r_16 h_16 n_16 hp_16 hn_16 => ?_)
    obtain ⟨rfl, rfl, rfl⟩ := hp_16
    refine g_istore (lv' := [(4, _), (0, _), (1, _), (2, _), (3, _)]) C dX4_erase_19 (by decide) rfl ?_
    refine g_iload C dX4_erase_21 0 rfl ?_
    refine g_bipush C dX4_erase_23 kb_10 ?_
    refine g_icmp_ne (tgt := 31) C dX4_erase_25 (by decide) (fun c_25 => ?_) (fun c_25 => ?_)
    · refine g_aload_n C dX4_erase_31 rfl 1 rfl ?_
      refine g_V0V C (met_X4_hold G) (cwV 0 C.2.2.2.2.1 (lw_V q1189 q1191 qs19 q79 q1192) rfl rfl rfl ok_X4_hold ⟨(Nat.le_of_ble_eq_true rfl), (Nat.le_of_ble_eq_true rfl)⟩) (mh_0 G) rfl (Nat.le_of_ble_eq_true rfl) dX4_erase_32 ⟨(Nat.le_of_ble_eq_true rfl), (Nat.le_of_ble_eq_true rfl)⟩ (fun h_32 n_32 hp_32 hn_32 => ?_)
      obtain ⟨rfl, rfl⟩ := hp_32
      refine g_aload_n C dX4_erase_35 rfl 1 rfl ?_
      refine g_iload_n C dX4_erase_36 rfl 2 rfl ?_
      refine g_bipush C dX4_erase_37 kb_10 ?_
      refine g_iload_n C dX4_erase_39 rfl 3 rfl ?_
      refine g_imulN C dX4_erase_40 ?_
      refine g_iload_n C dX4_erase_41 rfl 4 rfl ?_
      refine g_iaddN C dX4_erase_42 ?_
      refine g_bipush C dX4_erase_43 kb_10 ?_
      refine g_V3V C (met_X4_puts G (by omega) (by omega)) (cwV 3 C.2.2.2.2.1 (lw_V q1233 q1235 qs28 q79 q1236) rfl rfl rfl ok_X4_puts ⟨(Nat.le_of_ble_eq_true rfl), (Nat.le_of_ble_eq_true rfl)⟩) (mh_0 G) rfl (Nat.le_of_ble_eq_true rfl) dX4_erase_45 ⟨(Nat.le_of_ble_eq_true rfl), (Nat.le_of_ble_eq_true rfl)⟩ (fun h_45 n_45 hp_45 hn_45 => ?_)
      obtain ⟨rfl, rfl⟩ := hp_45
      refine g_aload_n C dX4_erase_48 rfl 1 rfl ?_
      refine g_iload_n C dX4_erase_49 rfl 2 rfl ?_
      refine g_iconst C dX4_erase_50 kc_1 ?_
      refine g_topi (y := bI (true)) (show nI 1 = bI true by decide) ?_
      refine g_iload C dX4_erase_51 0 rfl ?_
      refine g_V3I C (met_X4_keeps (rv := true) G I9 S9 (by omega) (by omega)) (cwV 3 C.2.2.2.2.1 (lw_V q1237 q1239 qs29 q79 q1240) rfl rfl rfl ok_X4_keeps ⟨(Nat.le_of_ble_eq_true rfl), (Nat.le_of_ble_eq_true rfl)⟩) (mh_0 G) rfl (Nat.le_of_ble_eq_true rfl) dX4_erase_53 ⟨(Nat.le_of_ble_eq_true rfl), (Nat.le_of_ble_eq_true rfl)⟩ (fun r_53 h_53 n_53 hp_53 hn_53 => ?_)
      obtain ⟨rfl, rfl, rfl⟩ := hp_53
      have ho : sp_erase s c r (nI k) (nI d) (nI z9) = sp_keep (upd s (ix k (10 * d + z9)) (nI 10)) c r k true (s (ix k (10 * d + z9))) := by unfold sp_erase; rw [if_pos c_7, tn_nI (k := k) (by omega), tn_nI (k := d) (by omega), tn_nI (k := z9) (by omega), if_neg c_25]
      exact g_iret C hr hlk dX4_erase_56 (Nat.le_of_ble_eq_true rfl) (Nat.le_of_ble_eq_true rfl) rfl ⟨_, rfl, ⟨_, _, by rw [ho, sp_keep_1], by rw [ho, sp_keep_2 hI.1 (fun x hx => upd_far (by omega) (by omega) hx)], rfl⟩⟩
    · refine g_bipush C dX4_erase_28 kb_m2 ?_
      have ho : sp_erase s c r (nI k) (nI d) (nI z9) = (-2, none) := by unfold sp_erase; rw [if_pos c_7, tn_nI (k := k) (by omega), tn_nI (k := d) (by omega), tn_nI (k := z9) (by omega), if_pos c_25]
      exact g_iret C hr hlk dX4_erase_30 (Nat.le_of_ble_eq_true rfl) (Nat.le_of_ble_eq_true rfl) rfl ⟨_, rfl, ⟨_, _, by rw [ho], by rw [ho]; rfl, rfl⟩⟩
  · refine g_iconst C dX4_erase_10 kc_m1 ?_
    have ho : sp_erase s c r x y z = (-1, none) := by unfold sp_erase; rw [c_7]; rfl
    exact g_iret C hr hlk dX4_erase_11 (Nat.le_of_ble_eq_true rfl) (Nat.le_of_ble_eq_true rfl) rfl ⟨_, rfl, ⟨_, _, by rw [ho], by rw [ho]; rfl, rfl⟩⟩
theorem ok_X4_mean : yX4_mean.cls = "MapSheetsModel" ∧ yX4_mean.cls ≠ "java/lang/invoke/MethodHandle" ∧ yX4_mean.cls ≠ "java/lang/invoke/VarHandle" ∧ (parseMethodDescriptor yX4_mean.desc).map (fun d => d.parameters.length) = some 3 := by decide +kernel
set_option maxHeartbeats 4000000 in
set_option maxRecDepth 100000 in
theorem met_X4_mean {l : Launch} {D : va_G} {b0 n : Nat} {h0 : GH} {g : Nat → Nat} {s w a t b : Nat → Int32} {ty : Int32} {c : Nat} {r : Nat} {q : Nat} {x : Int32} {y : Int32} {z : Int32} (G : gM b0 g) (I : MI s c r) (V : MV s) (hq : q ≤ 4) : gMet l yX4_mean cX4_mean 5 ((some .int)) 8 183 0 0 D b0 (mh h0 D g s w a t b (nI q) ty) n [.ref (g 0), .int x, .int y, .int z] (pI (fun r' h' n' => ∃ a' b', (sp_mean s c r x y z).1 = r' ∧ MR h0 D g (sp_mean s c r x y z) s w a' t b' q ty = h' ∧ n = n')) := by
  refine gMet.of (lv := [(0, _), (1, _), (2, _), (3, _)]) (by decide) (Nat.le_of_ble_eq_true rfl) rfl ?_
  intro p_ e_ U0 m_ args_ below_ meth_ co_ C hr hlk hnm
  have hI := m_ed_le I
  obtain ⟨I0, I1, I2, I3, I4, I5⟩ := id I
  refine g_aload_n C dX4_mean_0 rfl 0 rfl ?_
  refine g_iload_n C dX4_mean_1 rfl 1 rfl ?_
  refine g_V1I C (met_X4_isSheet G I) (cwV 1 C.2.2.2.2.1 (lw_V q1217 q1219 qs24 q79 q1220) rfl rfl rfl ok_X4_isSheet ⟨(Nat.le_of_ble_eq_true rfl), (Nat.le_of_ble_eq_true rfl)⟩) (mh_0 G) rfl (Nat.le_of_ble_eq_true rfl) dX4_mean_2 ⟨(Nat.le_of_ble_eq_true rfl), (Nat.le_of_ble_eq_true rfl)⟩ (fun r_2 h_2 n_2 hp_2 hn_2 => ?_)
  obtain ⟨rfl, rfl, rfl⟩ := hp_2
  refine g_if_eqB (tgt := 28) C dX4_mean_5 (by decide) (fun c_5 => ?_) (fun c_5 => ?_)
  · refine g_iconst C dX4_mean_28 kc_m1 ?_
    have ho : sp_mean s c r x y z = (-1, none) := by unfold sp_mean; rw [c_5]; rfl
    exact g_iret C hr hlk dX4_mean_29 (Nat.le_of_ble_eq_true rfl) (Nat.le_of_ble_eq_true rfl) rfl ⟨_, rfl, ⟨_, _, by rw [ho], by rw [ho]; rfl, rfl⟩⟩
  · refine g_iload_n C dX4_mean_8 rfl 2 rfl ?_
    refine g_iconst C dX4_mean_9 kc_0 ?_
    refine g_bipush C dX4_mean_10 kb_9 ?_
    refine g_S3I C (met_X4_in) (va_cwS 3 C.2.2.2.2.1 (lw_S q1186 q1187 q79 q1188) rfl rfl rfl ok_X4_in ⟨(Nat.le_of_ble_eq_true rfl), (Nat.le_of_ble_eq_true rfl)⟩) (Nat.le_of_ble_eq_true rfl) dX4_mean_12 ⟨(Nat.le_of_ble_eq_true rfl), (Nat.le_of_ble_eq_true rfl)⟩ (fun r_12 h_12 n_12 hp_12 hn_12 => ?_)
    obtain ⟨rfl, rfl, rfl⟩ := hp_12
    refine g_if_eqB (tgt := 28) C dX4_mean_15 (by decide) (fun c_15 => ?_) (fun c_15 => ?_)
    · rw [in0_eq (by omega)] at c_15
      refine g_iconst C dX4_mean_28 kc_m1 ?_
      have ho : sp_mean s c r x y z = (-1, none) := by unfold sp_mean; rw [c_5, c_15]; rfl
      exact g_iret C hr hlk dX4_mean_29 (Nat.le_of_ble_eq_true rfl) (Nat.le_of_ble_eq_true rfl) rfl ⟨_, rfl, ⟨_, _, by rw [ho], by rw [ho]; rfl, rfl⟩⟩
    · rw [in0_eq (by omega)] at c_15
      refine g_iload_n C dX4_mean_18 rfl 3 rfl ?_
      refine g_iconst C dX4_mean_19 kc_0 ?_
      refine g_bipush C dX4_mean_20 kb_9 ?_
      refine g_S3I C (met_X4_in) (va_cwS 3 C.2.2.2.2.1 (lw_S q1186 q1187 q79 q1188) rfl rfl rfl ok_X4_in ⟨(Nat.le_of_ble_eq_true rfl), (Nat.le_of_ble_eq_true rfl)⟩) (Nat.le_of_ble_eq_true rfl) dX4_mean_22 ⟨(Nat.le_of_ble_eq_true rfl), (Nat.le_of_ble_eq_true rfl)⟩ (fun r_22 h_22 n_22 hp_22 hn_22 => ?_)
      obtain ⟨rfl, rfl, rfl⟩ := hp_22
      refine g_if_neB (tgt := 30) C dX4_mean_25 (by decide) (fun c_25 => ?_) (fun c_25 => ?_)
      · rw [in0_eq (by omega)] at c_25
        obtain ⟨k, hk, rfl⟩ := isIn_ex c_5
        obtain ⟨d, hd, rfl⟩ := isIn_ex c_15
        obtain ⟨z9, hz, rfl⟩ := isIn_ex c_25
        have S9 : MV (upd s (ix k (40 + d)) (nI z9)) := V.put2 (by omega) (by omega) (by omega)
        have I9 : MI (upd s (ix k (40 + d)) (nI z9)) c r := I.congr (upd_lo (by omega)) (upd_lo (by omega))
        
        refine g_aload_n C dX4_mean_30 rfl 0 rfl ?_
        refine g_V0V C (met_X4_hold G) (cwV 0 C.2.2.2.2.1 (lw_V q1189 q1191 qs19 q79 q1192) rfl rfl rfl ok_X4_hold ⟨(Nat.le_of_ble_eq_true rfl), (Nat.le_of_ble_eq_true rfl)⟩) (mh_0 G) rfl (Nat.le_of_ble_eq_true rfl) dX4_mean_31 ⟨(Nat.le_of_ble_eq_true rfl), (Nat.le_of_ble_eq_true rfl)⟩ (fun h_31 n_31 hp_31 hn_31 => ?_)
        obtain ⟨rfl, rfl⟩ := hp_31
        refine g_aload_n C dX4_mean_34 rfl 0 rfl ?_
        refine g_iload_n C dX4_mean_35 rfl 1 rfl ?_
        refine g_bipush C dX4_mean_36 kb_40 ?_
        refine g_iload_n C dX4_mean_38 rfl 2 rfl ?_
        refine g_iaddN C dX4_mean_39 ?_
        refine g_V2I C (met_X4_of G (by omega) (by omega)) (cwV 2 C.2.2.2.2.1 (lw_V q1229 q1231 qs27 q79 q1232) rfl rfl rfl ok_X4_of ⟨(Nat.le_of_ble_eq_true rfl), (Nat.le_of_ble_eq_true rfl)⟩) (mh_0 G) rfl (Nat.le_of_ble_eq_true rfl) dX4_mean_40 ⟨(Nat.le_of_ble_eq_true rfl), (Nat.le_of_ble_eq_true rfl)⟩ (fun r_40 h_40 n_40 hp_40 hn_40 => ?_)
        obtain ⟨rfl, rfl, rfl⟩ := hp_40
        refine g_istore (lv' := [(4, _), (0, _), (1, _), (2, _), (3, _)]) C dX4_mean_43 (by decide) rfl ?_
        refine g_aload_n C dX4_mean_45 rfl 1 rfl ?_
        refine g_iload_n C dX4_mean_46 rfl 2 rfl ?_
        refine g_bipush C dX4_mean_47 kb_40 ?_
        refine g_iload_n C dX4_mean_49 rfl 3 rfl ?_
        refine g_iaddN C dX4_mean_50 ?_
        refine g_iload_n C dX4_mean_51 rfl 4 rfl ?_
        refine g_V3V C (met_X4_puts G (by omega) (by omega)) (cwV 3 C.2.2.2.2.1 (lw_V q1233 q1235 qs28 q79 q1236) rfl rfl rfl ok_X4_puts ⟨(Nat.le_of_ble_eq_true rfl), (Nat.le_of_ble_eq_true rfl)⟩) (mh_0 G) rfl (Nat.le_of_ble_eq_true rfl) dX4_mean_52 ⟨(Nat.le_of_ble_eq_true rfl), (Nat.le_of_ble_eq_true rfl)⟩ (fun h_52 n_52 hp_52 hn_52 => ?_)
        obtain ⟨rfl, rfl⟩ := hp_52
        refine g_aload_n C dX4_mean_55 rfl 1 rfl ?_
        refine g_iload_n C dX4_mean_56 rfl 2 rfl ?_
        refine g_iconst C dX4_mean_57 kc_1 ?_
        refine g_topi (y := bI (true)) (show nI 1 = bI true by decide) ?_
        refine g_iload C dX4_mean_58 0 rfl ?_
        refine g_V3I C (met_X4_keeps (rv := true) G I9 S9 (by omega) (by omega)) (cwV 3 C.2.2.2.2.1 (lw_V q1237 q1239 qs29 q79 q1240) rfl rfl rfl ok_X4_keeps ⟨(Nat.le_of_ble_eq_true rfl), (Nat.le_of_ble_eq_true rfl)⟩) (mh_0 G) rfl (Nat.le_of_ble_eq_true rfl) dX4_mean_60 ⟨(Nat.le_of_ble_eq_true rfl), (Nat.le_of_ble_eq_true rfl)⟩ (fun r_60 h_60 n_60 hp_60 hn_60 => ?_)
        obtain ⟨rfl, rfl, rfl⟩ := hp_60
        have ho : sp_mean s c r (nI k) (nI d) (nI z9) = sp_keep (upd s (ix k (40 + d)) (nI z9)) c r k true (s (ix k (40 + d))) := by unfold sp_mean; rw [c_5, c_15, c_25, tn_nI (k := k) (by omega), tn_nI (k := d) (by omega)]; rfl
        exact g_iret C hr hlk dX4_mean_63 (Nat.le_of_ble_eq_true rfl) (Nat.le_of_ble_eq_true rfl) rfl ⟨_, rfl, ⟨_, _, by rw [ho, sp_keep_1], by rw [ho, sp_keep_2 hI.1 (fun x hx => upd_far (by omega) (by omega) hx)], rfl⟩⟩
      · rw [in0_eq (by omega)] at c_25
        refine g_iconst C dX4_mean_28 kc_m1 ?_
        have ho : sp_mean s c r x y z = (-1, none) := by unfold sp_mean; rw [c_5, c_15, c_25]; rfl
        exact g_iret C hr hlk dX4_mean_29 (Nat.le_of_ble_eq_true rfl) (Nat.le_of_ble_eq_true rfl) rfl ⟨_, rfl, ⟨_, _, by rw [ho], by rw [ho]; rfl, rfl⟩⟩
theorem ok_X4_sign : yX4_sign.cls = "MapSheetsModel" ∧ yX4_sign.cls ≠ "java/lang/invoke/MethodHandle" ∧ yX4_sign.cls ≠ "java/lang/invoke/VarHandle" ∧ (parseMethodDescriptor yX4_sign.desc).map (fun d => d.parameters.length) = some 3 := by decide +kernel
set_option maxHeartbeats 4000000 in
set_option maxRecDepth 100000 in
theorem met_X4_sign {l : Launch} {D : va_G} {b0 n : Nat} {h0 : GH} {g : Nat → Nat} {s w a t b : Nat → Int32} {ty : Int32} {c : Nat} {r : Nat} {q : Nat} {x : Int32} {y : Int32} {z : Int32} (G : gM b0 g) (I : MI s c r) (V : MV s) (hq : q ≤ 4) : gMet l yX4_sign cX4_sign 5 ((some .int)) 3 64 0 0 D b0 (mh h0 D g s w a t b (nI q) ty) n [.ref (g 0), .int x, .int y, .int z] (pI (fun r' h' n' => ∃ a' b', rd_sign s c r x y z = r' ∧ mh h0 D g s w a' t b' (nI q) ty = h' ∧ n = n')) := by
  refine gMet.of (lv := [(0, _), (1, _), (2, _), (3, _)]) (by decide) (Nat.le_of_ble_eq_true rfl) rfl ?_
  intro p_ e_ U0 m_ args_ below_ meth_ co_ C hr hlk hnm
  have hI := m_ed_le I
  obtain ⟨I0, I1, I2, I3, I4, I5⟩ := id I
  refine g_aload_n C dX4_sign_0 rfl 0 rfl ?_
  refine g_iload_n C dX4_sign_1 rfl 1 rfl ?_
  refine g_iload_n C dX4_sign_2 rfl 2 rfl ?_
  refine g_iload_n C dX4_sign_3 rfl 3 rfl ?_
  refine g_V3I C (met_X4_isPlace G I) (cwV 3 C.2.2.2.2.1 (lw_V q1213 q1215 qs23 q79 q1216) rfl rfl rfl ok_X4_isPlace ⟨(Nat.le_of_ble_eq_true rfl), (Nat.le_of_ble_eq_true rfl)⟩) (mh_0 G) rfl (Nat.le_of_ble_eq_true rfl) dX4_sign_4 ⟨(Nat.le_of_ble_eq_true rfl), (Nat.le_of_ble_eq_true rfl)⟩ (fun r_4 h_4 n_4 hp_4 hn_4 => ?_)
  obtain ⟨rfl, rfl, rfl⟩ := hp_4
  refine g_if_neB (tgt := 12) C dX4_sign_7 (by decide) (fun c_7 => ?_) (fun c_7 => ?_)
  · have hpl := c_7
    unfold isPl at hpl
    simp only [Bool.and_eq_true] at hpl
    obtain ⟨k, hk, rfl⟩ := isIn_ex hpl.1.1
    obtain ⟨d, hd, rfl⟩ := isIn_ex hpl.1.2
    obtain ⟨z9, hz, rfl⟩ := isIn_ex hpl.2
    have v1 := V.1 k (by omega) (10 * d + z9) (by omega)
    refine g_aload_n C dX4_sign_12 rfl 0 rfl ?_
    refine g_iload_n C dX4_sign_13 rfl 1 rfl ?_
    refine g_iload_n C dX4_sign_14 rfl 2 rfl ?_
    refine g_iload_n C dX4_sign_15 rfl 3 rfl ?_
    refine g_V3I C (met_X4_signAt G (by omega) (by omega) (by omega)) (cwV 3 C.2.2.2.2.1 (lw_V q1225 q1227 qs26 q79 q1228) rfl rfl rfl ok_X4_signAt ⟨(Nat.le_of_ble_eq_true rfl), (Nat.le_of_ble_eq_true rfl)⟩) (mh_0 G) rfl (Nat.le_of_ble_eq_true rfl) dX4_sign_16 ⟨(Nat.le_of_ble_eq_true rfl), (Nat.le_of_ble_eq_true rfl)⟩ (fun r_16 h_16 n_16 hp_16 hn_16 => ?_)
    obtain ⟨rfl, rfl, rfl⟩ := hp_16
    refine g_istore (lv' := [(4, _), (0, _), (1, _), (2, _), (3, _)]) C dX4_sign_19 (by decide) rfl ?_
    refine g_iload C dX4_sign_21 0 rfl ?_
    refine g_bipush C dX4_sign_23 kb_10 ?_
    refine g_icmp_ne (tgt := 33) C dX4_sign_25 (by decide) (fun c_25 => ?_) (fun c_25 => ?_)
    · refine g_iload C dX4_sign_33 0 rfl ?_
      exact g_iret C hr hlk dX4_sign_35 (Nat.le_of_ble_eq_true rfl) (Nat.le_of_ble_eq_true rfl) rfl ⟨_, rfl, ⟨_, _, by unfold rd_sign; rw [if_pos c_7, tn_nI (k := k) (by omega), tn_nI (k := d) (by omega), tn_nI (k := z9) (by omega), if_neg c_25], rfl, rfl⟩⟩
    · refine g_bipush C dX4_sign_28 kb_m4 ?_
      refine g_goto (tgt := 35) C dX4_sign_30 (by decide) ?_
      exact g_iret C hr hlk dX4_sign_35 (Nat.le_of_ble_eq_true rfl) (Nat.le_of_ble_eq_true rfl) rfl ⟨_, rfl, ⟨_, _, by unfold rd_sign; rw [if_pos c_7, tn_nI (k := k) (by omega), tn_nI (k := d) (by omega), tn_nI (k := z9) (by omega), if_pos c_25], rfl, rfl⟩⟩
  · refine g_iconst C dX4_sign_10 kc_m1 ?_
    exact g_iret C hr hlk dX4_sign_11 (Nat.le_of_ble_eq_true rfl) (Nat.le_of_ble_eq_true rfl) rfl ⟨_, rfl, ⟨_, _, by unfold rd_sign; rw [c_7]; rfl, rfl, rfl⟩⟩
theorem ok_X4_meaning : yX4_meaning.cls = "MapSheetsModel" ∧ yX4_meaning.cls ≠ "java/lang/invoke/MethodHandle" ∧ yX4_meaning.cls ≠ "java/lang/invoke/VarHandle" ∧ (parseMethodDescriptor yX4_meaning.desc).map (fun d => d.parameters.length) = some 2 := by decide +kernel
set_option maxHeartbeats 4000000 in
set_option maxRecDepth 100000 in
theorem met_X4_meaning {l : Launch} {D : va_G} {b0 n : Nat} {h0 : GH} {g : Nat → Nat} {s w a t b : Nat → Int32} {ty : Int32} {c : Nat} {r : Nat} {q : Nat} {x : Int32} {y : Int32} (G : gM b0 g) (I : MI s c r) (V : MV s) (hq : q ≤ 4) : gMet l yX4_meaning cX4_meaning 3 ((some .int)) 2 41 0 0 D b0 (mh h0 D g s w a t b (nI q) ty) n [.ref (g 0), .int x, .int y] (pI (fun r' h' n' => ∃ a' b', rd_meaning s c r x y = r' ∧ mh h0 D g s w a' t b' (nI q) ty = h' ∧ n = n')) := by
  refine gMet.of (lv := [(0, _), (1, _), (2, _)]) (by decide) (Nat.le_of_ble_eq_true rfl) rfl ?_
  intro p_ e_ U0 m_ args_ below_ meth_ co_ C hr hlk hnm
  have hI := m_ed_le I
  obtain ⟨I0, I1, I2, I3, I4, I5⟩ := id I
  refine g_aload_n C dX4_meaning_0 rfl 0 rfl ?_
  refine g_iload_n C dX4_meaning_1 rfl 1 rfl ?_
  refine g_V1I C (met_X4_isSheet G I) (cwV 1 C.2.2.2.2.1 (lw_V q1217 q1219 qs24 q79 q1220) rfl rfl rfl ok_X4_isSheet ⟨(Nat.le_of_ble_eq_true rfl), (Nat.le_of_ble_eq_true rfl)⟩) (mh_0 G) rfl (Nat.le_of_ble_eq_true rfl) dX4_meaning_2 ⟨(Nat.le_of_ble_eq_true rfl), (Nat.le_of_ble_eq_true rfl)⟩ (fun r_2 h_2 n_2 hp_2 hn_2 => ?_)
  obtain ⟨rfl, rfl, rfl⟩ := hp_2
  refine g_if_eqB (tgt := 30) C dX4_meaning_5 (by decide) (fun c_5 => ?_) (fun c_5 => ?_)
  · refine g_iconst C dX4_meaning_30 kc_m1 ?_
    exact g_iret C hr hlk dX4_meaning_31 (Nat.le_of_ble_eq_true rfl) (Nat.le_of_ble_eq_true rfl) rfl ⟨_, rfl, ⟨_, _, by unfold rd_meaning; rw [c_5]; rfl, rfl, rfl⟩⟩
  · refine g_iload_n C dX4_meaning_8 rfl 2 rfl ?_
    refine g_iconst C dX4_meaning_9 kc_0 ?_
    refine g_bipush C dX4_meaning_10 kb_9 ?_
    refine g_S3I C (met_X4_in) (va_cwS 3 C.2.2.2.2.1 (lw_S q1186 q1187 q79 q1188) rfl rfl rfl ok_X4_in ⟨(Nat.le_of_ble_eq_true rfl), (Nat.le_of_ble_eq_true rfl)⟩) (Nat.le_of_ble_eq_true rfl) dX4_meaning_12 ⟨(Nat.le_of_ble_eq_true rfl), (Nat.le_of_ble_eq_true rfl)⟩ (fun r_12 h_12 n_12 hp_12 hn_12 => ?_)
    obtain ⟨rfl, rfl, rfl⟩ := hp_12
    refine g_if_eqB (tgt := 30) C dX4_meaning_15 (by decide) (fun c_15 => ?_) (fun c_15 => ?_)
    · rw [in0_eq (by omega)] at c_15
      refine g_iconst C dX4_meaning_30 kc_m1 ?_
      exact g_iret C hr hlk dX4_meaning_31 (Nat.le_of_ble_eq_true rfl) (Nat.le_of_ble_eq_true rfl) rfl ⟨_, rfl, ⟨_, _, by unfold rd_meaning; rw [c_5, c_15]; rfl, rfl, rfl⟩⟩
    · rw [in0_eq (by omega)] at c_15
      obtain ⟨k, hk, rfl⟩ := isIn_ex c_5
      obtain ⟨d, hd, rfl⟩ := isIn_ex c_15
      refine g_aload_n C dX4_meaning_18 rfl 0 rfl ?_
      refine g_iload_n C dX4_meaning_19 rfl 1 rfl ?_
      refine g_bipush C dX4_meaning_20 kb_40 ?_
      refine g_iload_n C dX4_meaning_22 rfl 2 rfl ?_
      refine g_iaddN C dX4_meaning_23 ?_
      refine g_V2I C (met_X4_of G (by omega) (by omega)) (cwV 2 C.2.2.2.2.1 (lw_V q1229 q1231 qs27 q79 q1232) rfl rfl rfl ok_X4_of ⟨(Nat.le_of_ble_eq_true rfl), (Nat.le_of_ble_eq_true rfl)⟩) (mh_0 G) rfl (Nat.le_of_ble_eq_true rfl) dX4_meaning_24 ⟨(Nat.le_of_ble_eq_true rfl), (Nat.le_of_ble_eq_true rfl)⟩ (fun r_24 h_24 n_24 hp_24 hn_24 => ?_)
      obtain ⟨rfl, rfl, rfl⟩ := hp_24
      refine g_goto (tgt := 31) C dX4_meaning_27 (by decide) ?_
      exact g_iret C hr hlk dX4_meaning_31 (Nat.le_of_ble_eq_true rfl) (Nat.le_of_ble_eq_true rfl) rfl ⟨_, rfl, ⟨_, _, by unfold rd_meaning; rw [c_5, c_15, tn_nI (k := k) (by omega), tn_nI (k := d) (by omega)]; rfl, rfl, rfl⟩⟩
