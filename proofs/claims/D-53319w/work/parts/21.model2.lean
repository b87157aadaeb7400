theorem ok_X4_firstOf : yX4_firstOf.cls = "MapSheetsModel" ∧ yX4_firstOf.cls ≠ "java/lang/invoke/MethodHandle" ∧ yX4_firstOf.cls ≠ "java/lang/invoke/VarHandle" ∧ (parseMethodDescriptor yX4_firstOf.desc).map (fun d => d.parameters.length) = some 1 := by decide +kernel
set_option maxHeartbeats 4000000 in
set_option maxRecDepth 100000 in
theorem met_X4_firstOf {l : Launch} {D : va_G} {b0 n : Nat} {h0 : GH} {g : Nat → Nat} {s w a t b : Nat → Int32} {st ty : Int32} {c : Nat} {r : Nat} {e : Nat} (G : gM b0 g) (I : MI s c r) (he : e < m_ed c r) : gMet l yX4_firstOf cX4_firstOf 3 ((some .int)) 1 20 0 0 D b0 (mh h0 D g s w a t b st ty) n [.ref (g 0), .int (nI e)] (pI (fun r' h' n' => nI (m_fst c r e) = r' ∧ (mh h0 D g s w a t b st ty) = h' ∧ n = n')) := by
  refine gMet.of (lv := [(0, _), (1, _)]) (by decide) (Nat.le_of_ble_eq_true rfl) rfl ?_
  intro p_ e_ U0 m_ args_ below_ meth_ co_ C hr hlk hnm
  have hI := m_ed_le I
  obtain ⟨I0, I1, I2, I3, I4, I5⟩ := id I
  have hfs := m_fs_lt I he
  refine g_aload_n C dX4_firstOf_0 rfl 0 rfl ?_
  refine g_get C in_X4 (mh_0 G) rfl 0 (by decide) q1160 (fun _ hx => hx) rfl dX4_firstOf_1 ?_
  refine g_iconst C dX4_firstOf_4 kc_0 ?_
  refine g_ialdN C (mh_1 G) (by omega) (by omega) dX4_firstOf_5 ?_
  refine g_topi (y := nI (c)) I.1 ?_
  refine g_istore_n (lv' := [(2, _), (0, _), (1, _)]) C dX4_firstOf_6 rfl (by decide) rfl ?_
  refine g_iload_n C dX4_firstOf_7 rfl 2 rfl ?_
  refine g_aload_n C dX4_firstOf_8 rfl 1 rfl ?_
  refine g_V0I C (met_X4_rowEdges G I) (cwV 0 C.2.2.2.2.1 (lw_V q1197 q1199 qs21 q79 q1200) rfl rfl rfl ok_X4_rowEdges ⟨(Nat.le_of_ble_eq_true rfl), (Nat.le_of_ble_eq_true rfl)⟩) (mh_0 G) rfl (Nat.le_of_ble_eq_true rfl) dX4_firstOf_9 ⟨(Nat.le_of_ble_eq_true rfl), (Nat.le_of_ble_eq_true rfl)⟩ (fun r_9 h_9 n_9 hp_9 hn_9 => ?_)
  obtain ⟨rfl, rfl, rfl⟩ := hp_9
  refine g_icmp_geN (tgt := 31) C dX4_firstOf_12 (by decide) (by omega) (by omega) (fun c_12 => ?_) (fun c_12 => ?_)
  · refine g_iload_n C dX4_firstOf_31 rfl 2 rfl ?_
    refine g_aload_n C dX4_firstOf_32 rfl 1 rfl ?_
    refine g_V0I C (met_X4_rowEdges G I) (cwV 0 C.2.2.2.2.1 (lw_V q1197 q1199 qs21 q79 q1200) rfl rfl rfl ok_X4_rowEdges ⟨(Nat.le_of_ble_eq_true rfl), (Nat.le_of_ble_eq_true rfl)⟩) (mh_0 G) rfl (Nat.le_of_ble_eq_true rfl) dX4_firstOf_33 ⟨(Nat.le_of_ble_eq_true rfl), (Nat.le_of_ble_eq_true rfl)⟩ (fun r_33 h_33 n_33 hp_33 hn_33 => ?_)
    obtain ⟨rfl, rfl, rfl⟩ := hp_33
    refine g_isubN C dX4_firstOf_36 (by omega) ?_
    exact g_iret C hr hlk dX4_firstOf_37 (Nat.le_of_ble_eq_true rfl) (Nat.le_of_ble_eq_true rfl) rfl ⟨_, rfl, ⟨by unfold m_fst; rw [if_neg (by omega)], rfl, rfl⟩⟩
  · have hg := m_grid2 (by omega) (by omega) (by omega) I2 I4 c_12
    refine g_iload_n C dX4_firstOf_15 rfl 2 rfl ?_
    refine g_iload_n C dX4_firstOf_16 rfl 0 rfl ?_
    refine g_iconst C dX4_firstOf_17 kc_1 ?_
    refine g_isubN C dX4_firstOf_18 (by omega) ?_
    refine g_idivN C dX4_firstOf_19 (by omega) (by omega) (by omega) ?_
    refine g_iload_n C dX4_firstOf_20 rfl 0 rfl ?_
    refine g_imulN C dX4_firstOf_21 ?_
    refine g_iload_n C dX4_firstOf_22 rfl 2 rfl ?_
    refine g_iload_n C dX4_firstOf_23 rfl 0 rfl ?_
    refine g_iconst C dX4_firstOf_24 kc_1 ?_
    refine g_isubN C dX4_firstOf_25 (by omega) ?_
    refine g_iremN C dX4_firstOf_26 (by omega) (by omega) (by omega) ?_
    refine g_iaddN C dX4_firstOf_27 ?_
    refine g_goto (tgt := 37) C dX4_firstOf_28 (by decide) ?_
    exact g_iret C hr hlk dX4_firstOf_37 (Nat.le_of_ble_eq_true rfl) (Nat.le_of_ble_eq_true rfl) rfl ⟨_, rfl, ⟨by unfold m_fst; rw [if_pos c_12], rfl, rfl⟩⟩
theorem ok_X4_secondOf : yX4_secondOf.cls = "MapSheetsModel" ∧ yX4_secondOf.cls ≠ "java/lang/invoke/MethodHandle" ∧ yX4_secondOf.cls ≠ "java/lang/invoke/VarHandle" ∧ (parseMethodDescriptor yX4_secondOf.desc).map (fun d => d.parameters.length) = some 1 := by decide +kernel
set_option maxHeartbeats 4000000 in
set_option maxRecDepth 100000 in
theorem met_X4_secondOf {l : Launch} {D : va_G} {b0 n : Nat} {h0 : GH} {g : Nat → Nat} {s w a t b : Nat → Int32} {st ty : Int32} {c : Nat} {r : Nat} {e : Nat} (G : gM b0 g) (I : MI s c r) (he : e < m_ed c r) : gMet l yX4_secondOf cX4_secondOf 2 ((some .int)) 2 42 0 0 D b0 (mh h0 D g s w a t b st ty) n [.ref (g 0), .int (nI e)] (pI (fun r' h' n' => nI (m_snd c r e) = r' ∧ (mh h0 D g s w a t b st ty) = h' ∧ n = n')) := by
  refine gMet.of (lv := [(0, _), (1, _)]) (by decide) (Nat.le_of_ble_eq_true rfl) rfl ?_
  intro p_ e_ U0 m_ args_ below_ meth_ co_ C hr hlk hnm
  have hI := m_ed_le I
  obtain ⟨I0, I1, I2, I3, I4, I5⟩ := id I
  have hfs := m_fs_lt I he
  refine g_aload_n C dX4_secondOf_0 rfl 0 rfl ?_
  refine g_iload_n C dX4_secondOf_1 rfl 1 rfl ?_
  refine g_V1I C (met_X4_firstOf G I (by first | assumption | omega)) (cwV 1 C.2.2.2.2.1 (lw_V q1261 q1263 qs35 q79 q1264) rfl rfl rfl ok_X4_firstOf ⟨(Nat.le_of_ble_eq_true rfl), (Nat.le_of_ble_eq_true rfl)⟩) (mh_0 G) rfl (Nat.le_of_ble_eq_true rfl) dX4_secondOf_2 ⟨(Nat.le_of_ble_eq_true rfl), (Nat.le_of_ble_eq_true rfl)⟩ (fun r_2 h_2 n_2 hp_2 hn_2 => ?_)
  obtain ⟨rfl, rfl, rfl⟩ := hp_2
  refine g_iload_n C dX4_secondOf_5 rfl 1 rfl ?_
  refine g_aload_n C dX4_secondOf_6 rfl 0 rfl ?_
  refine g_V0I C (met_X4_rowEdges G I) (cwV 0 C.2.2.2.2.1 (lw_V q1197 q1199 qs21 q79 q1200) rfl rfl rfl ok_X4_rowEdges ⟨(Nat.le_of_ble_eq_true rfl), (Nat.le_of_ble_eq_true rfl)⟩) (mh_0 G) rfl (Nat.le_of_ble_eq_true rfl) dX4_secondOf_7 ⟨(Nat.le_of_ble_eq_true rfl), (Nat.le_of_ble_eq_true rfl)⟩ (fun r_7 h_7 n_7 hp_7 hn_7 => ?_)
  obtain ⟨rfl, rfl, rfl⟩ := hp_7
  refine g_icmp_geN (tgt := 17) C dX4_secondOf_10 (by decide) (by omega) (by omega) (fun c_10 => ?_) (fun c_10 => ?_)
  · refine g_aload_n C dX4_secondOf_17 rfl 0 rfl ?_
    refine g_get C in_X4 (mh_0 G) rfl 0 (by decide) q1160 (fun _ hx => hx) rfl dX4_secondOf_18 ?_
    refine g_iconst C dX4_secondOf_21 kc_0 ?_
    refine g_ialdN C (mh_1 G) (by omega) (by omega) dX4_secondOf_22 ?_
    refine g_topi (y := nI (c)) I.1 ?_
    refine g_iaddN C dX4_secondOf_23 ?_
    exact g_iret C hr hlk dX4_secondOf_24 (Nat.le_of_ble_eq_true rfl) (Nat.le_of_ble_eq_true rfl) rfl ⟨_, rfl, ⟨by unfold m_snd; rw [if_neg (by omega)], rfl, rfl⟩⟩
  · refine g_iconst C dX4_secondOf_13 kc_1 ?_
    refine g_goto (tgt := 23) C dX4_secondOf_14 (by decide) ?_
    refine g_iaddN C dX4_secondOf_23 ?_
    exact g_iret C hr hlk dX4_secondOf_24 (Nat.le_of_ble_eq_true rfl) (Nat.le_of_ble_eq_true rfl) rfl ⟨_, rfl, ⟨by unfold m_snd; rw [if_pos c_10], rfl, rfl⟩⟩
theorem ok_X4_sideOf : yX4_sideOf.cls = "MapSheetsModel" ∧ yX4_sideOf.cls ≠ "java/lang/invoke/MethodHandle" ∧ yX4_sideOf.cls ≠ "java/lang/invoke/VarHandle" ∧ (parseMethodDescriptor yX4_sideOf.desc).map (fun d => d.parameters.length) = some 1 := by decide +kernel
set_option maxHeartbeats 4000000 in
set_option maxRecDepth 100000 in
theorem met_X4_sideOf {l : Launch} {D : va_G} {b0 n : Nat} {h0 : GH} {g : Nat → Nat} {s w a t b : Nat → Int32} {st ty : Int32} {c : Nat} {r : Nat} {e : Nat} (G : gM b0 g) (I : MI s c r) (he : e < m_ed c r) : gMet l yX4_sideOf cX4_sideOf 2 ((some .int)) 1 20 0 0 D b0 (mh h0 D g s w a t b st ty) n [.ref (g 0), .int (nI e)] (pI (fun r' h' n' => nI (m_sd c r e) = r' ∧ (mh h0 D g s w a t b st ty) = h' ∧ n = n')) := by
  refine gMet.of (lv := [(0, _), (1, _)]) (by decide) (Nat.le_of_ble_eq_true rfl) rfl ?_
  intro p_ e_ U0 m_ args_ below_ meth_ co_ C hr hlk hnm
  have hI := m_ed_le I
  obtain ⟨I0, I1, I2, I3, I4, I5⟩ := id I
  have hfs := m_fs_lt I he
  refine g_iload_n C dX4_sideOf_0 rfl 1 rfl ?_
  refine g_aload_n C dX4_sideOf_1 rfl 0 rfl ?_
  refine g_V0I C (met_X4_rowEdges G I) (cwV 0 C.2.2.2.2.1 (lw_V q1197 q1199 qs21 q79 q1200) rfl rfl rfl ok_X4_rowEdges ⟨(Nat.le_of_ble_eq_true rfl), (Nat.le_of_ble_eq_true rfl)⟩) (mh_0 G) rfl (Nat.le_of_ble_eq_true rfl) dX4_sideOf_2 ⟨(Nat.le_of_ble_eq_true rfl), (Nat.le_of_ble_eq_true rfl)⟩ (fun r_2 h_2 n_2 hp_2 hn_2 => ?_)
  obtain ⟨rfl, rfl, rfl⟩ := hp_2
  refine g_icmp_geN (tgt := 12) C dX4_sideOf_5 (by decide) (by omega) (by omega) (fun c_5 => ?_) (fun c_5 => ?_)
  · refine g_iconst C dX4_sideOf_12 kc_2 ?_
    exact g_iret C hr hlk dX4_sideOf_13 (Nat.le_of_ble_eq_true rfl) (Nat.le_of_ble_eq_true rfl) rfl ⟨_, rfl, ⟨by unfold m_sd; rw [if_neg (by omega)], rfl, rfl⟩⟩
  · refine g_iconst C dX4_sideOf_8 kc_1 ?_
    refine g_goto (tgt := 13) C dX4_sideOf_9 (by decide) ?_
    exact g_iret C hr hlk dX4_sideOf_13 (Nat.le_of_ble_eq_true rfl) (Nat.le_of_ble_eq_true rfl) rfl ⟨_, rfl, ⟨by unfold m_sd; rw [if_pos c_5], rfl, rfl⟩⟩
theorem ok_X4_edgeOf : yX4_edgeOf.cls = "MapSheetsModel" ∧ yX4_edgeOf.cls ≠ "java/lang/invoke/MethodHandle" ∧ yX4_edgeOf.cls ≠ "java/lang/invoke/VarHandle" ∧ (parseMethodDescriptor yX4_edgeOf.desc).map (fun d => d.parameters.length) = some 2 := by decide +kernel
set_option maxHeartbeats 4000000 in
set_option maxRecDepth 100000 in
theorem met_X4_edgeOf {l : Launch} {D : va_G} {b0 n : Nat} {h0 : GH} {g : Nat → Nat} {s w a t b : Nat → Int32} {st ty : Int32} {c : Nat} {r : Nat} {k : Nat} {d : Nat} (G : gM b0 g) (I : MI s c r) (hk : k < c * r) (hd : d < 4) : gMet l yX4_edgeOf cX4_edgeOf 6 ((some .int)) 1 20 0 0 D b0 (mh h0 D g s w a t b st ty) n [.ref (g 0), .int (nI k), .int (nI d)] (pI (fun r' h' n' => m_eo c r k d = r' ∧ (mh h0 D g s w a t b st ty) = h' ∧ n = n')) := by
  refine gMet.of (lv := [(0, _), (1, _), (2, _)]) (by decide) (Nat.le_of_ble_eq_true rfl) rfl ?_
  intro p_ e_ U0 m_ args_ below_ meth_ co_ C hr hlk hnm
  have hI := m_ed_le I
  obtain ⟨I0, I1, I2, I3, I4, I5⟩ := id I
  have hm := Nat.mod_lt k (show c > 0 by omega)
  have hdv := Nat.div_le_self k c
  refine g_aload_n C dX4_edgeOf_0 rfl 0 rfl ?_
  refine g_get C in_X4 (mh_0 G) rfl 0 (by decide) q1160 (fun _ hx => hx) rfl dX4_edgeOf_1 ?_
  refine g_iconst C dX4_edgeOf_4 kc_0 ?_
  refine g_ialdN C (mh_1 G) (by omega) (by omega) dX4_edgeOf_5 ?_
  refine g_topi (y := nI (c)) I.1 ?_
  refine g_istore_n (lv' := [(3, _), (0, _), (1, _), (2, _)]) C dX4_edgeOf_6 rfl (by decide) rfl ?_
  refine g_iload_n C dX4_edgeOf_7 rfl 2 rfl ?_
  refine g_iload_n C dX4_edgeOf_8 rfl 0 rfl ?_
  refine g_iremN C dX4_edgeOf_9 (by omega) (by omega) (by omega) ?_
  refine g_istore (lv' := [(4, _), (3, _), (0, _), (1, _), (2, _)]) C dX4_edgeOf_10 (by decide) rfl ?_
  refine g_iload_n C dX4_edgeOf_12 rfl 3 rfl ?_
  refine g_iload_n C dX4_edgeOf_13 rfl 1 rfl ?_
  refine g_idivN C dX4_edgeOf_14 (by omega) (by omega) (by omega) ?_
  refine g_istore (lv' := [(5, _), (4, _), (3, _), (0, _), (1, _), (2, _)]) C dX4_edgeOf_15 (by decide) rfl ?_
  refine g_iload_n C dX4_edgeOf_17 rfl 5 rfl ?_
  rcases (show d = 0 ∨ d = 1 ∨ d = 2 ∨ d = 3 by omega) with rfl | rfl | rfl | rfl
  · refine g_tableIn (off := 26) (tgt := 44) C dX4_edgeOf_18 (by decide) (by decide) rfl (by decide) ?_
    refine g_iload C dX4_edgeOf_44 0 rfl ?_
    refine g_if_leN (tgt := 60) C dX4_edgeOf_46 (by decide) (by omega) (fun c_46 => ?_) (fun c_46 => ?_)
    · refine g_bipush C dX4_edgeOf_60 kb_m4 ?_
      exact g_iret C hr hlk dX4_edgeOf_62 (Nat.le_of_ble_eq_true rfl) (Nat.le_of_ble_eq_true rfl) rfl ⟨_, rfl, ⟨by simp [m_eo, c_46], rfl, rfl⟩⟩
    · have hck : c ≤ k := Nat.le_of_not_lt fun q => by rw [Nat.div_eq_of_lt q] at c_46; omega
      refine g_aload_n C dX4_edgeOf_49 rfl 3 rfl ?_
      refine g_V0I C (met_X4_rowEdges G I) (cwV 0 C.2.2.2.2.1 (lw_V q1197 q1199 qs21 q79 q1200) rfl rfl rfl ok_X4_rowEdges ⟨(Nat.le_of_ble_eq_true rfl), (Nat.le_of_ble_eq_true rfl)⟩) (mh_0 G) rfl (Nat.le_of_ble_eq_true rfl) dX4_edgeOf_50 ⟨(Nat.le_of_ble_eq_true rfl), (Nat.le_of_ble_eq_true rfl)⟩ (fun r_50 h_50 n_50 hp_50 hn_50 => ?_)
      obtain ⟨rfl, rfl, rfl⟩ := hp_50
      refine g_iload_n C dX4_edgeOf_53 rfl 4 rfl ?_
      refine g_iaddN C dX4_edgeOf_54 ?_
      refine g_iload_n C dX4_edgeOf_55 rfl 2 rfl ?_
      refine g_isubN C dX4_edgeOf_56 (by omega) ?_
      refine g_goto (tgt := 62) C dX4_edgeOf_57 (by decide) ?_
      exact g_iret C hr hlk dX4_edgeOf_62 (Nat.le_of_ble_eq_true rfl) (Nat.le_of_ble_eq_true rfl) rfl ⟨_, rfl, ⟨by simp [m_eo, c_46], rfl, rfl⟩⟩
  · refine g_tableIn (off := 45) (tgt := 63) C dX4_edgeOf_18 (by decide) (by decide) rfl (by decide) ?_
    refine g_iload C dX4_edgeOf_63 1 rfl ?_
    refine g_iload_n C dX4_edgeOf_65 rfl 2 rfl ?_
    refine g_iconst C dX4_edgeOf_66 kc_1 ?_
    refine g_isubN C dX4_edgeOf_67 (by omega) ?_
    refine g_icmp_geN (tgt := 83) C dX4_edgeOf_68 (by decide) (by omega) (by omega) (fun c_68 => ?_) (fun c_68 => ?_)
    · refine g_bipush C dX4_edgeOf_83 kb_m4 ?_
      exact g_iret C hr hlk dX4_edgeOf_85 (Nat.le_of_ble_eq_true rfl) (Nat.le_of_ble_eq_true rfl) rfl ⟨_, rfl, ⟨by unfold m_eo; rw [if_neg (by decide), if_pos rfl, if_neg (by omega)], rfl, rfl⟩⟩
    · refine g_iload C dX4_edgeOf_71 0 rfl ?_
      refine g_iload_n C dX4_edgeOf_73 rfl 2 rfl ?_
      refine g_iconst C dX4_edgeOf_74 kc_1 ?_
      refine g_isubN C dX4_edgeOf_75 (by omega) ?_
      refine g_imulN C dX4_edgeOf_76 ?_
      refine g_iload C dX4_edgeOf_77 1 rfl ?_
      refine g_iaddN C dX4_edgeOf_79 ?_
      refine g_goto (tgt := 85) C dX4_edgeOf_80 (by decide) ?_
      exact g_iret C hr hlk dX4_edgeOf_85 (Nat.le_of_ble_eq_true rfl) (Nat.le_of_ble_eq_true rfl) rfl ⟨_, rfl, ⟨by unfold m_eo; rw [if_neg (by decide), if_pos rfl, if_pos c_68], rfl, rfl⟩⟩
  · refine g_tableIn (off := 68) (tgt := 86) C dX4_edgeOf_18 (by decide) (by decide) rfl (by decide) ?_
    refine g_iload C dX4_edgeOf_86 0 rfl ?_
    refine g_aload_n C dX4_edgeOf_88 rfl 3 rfl ?_
    refine g_get C in_X4 (mh_0 G) rfl 0 (by decide) q1160 (fun _ hx => hx) rfl dX4_edgeOf_89 ?_
    refine g_iconst C dX4_edgeOf_92 kc_1 ?_
    refine g_ialdN C (mh_1 G) (by omega) (by omega) dX4_edgeOf_93 ?_
    refine g_topi (y := nI (r)) I.2.1 ?_
    refine g_iconst C dX4_edgeOf_94 kc_1 ?_
    refine g_isubN C dX4_edgeOf_95 (by omega) ?_
    refine g_icmp_geN (tgt := 108) C dX4_edgeOf_96 (by decide) (by omega) (by omega) (fun c_96 => ?_) (fun c_96 => ?_)
    · refine g_bipush C dX4_edgeOf_108 kb_m4 ?_
      exact g_iret C hr hlk dX4_edgeOf_110 (Nat.le_of_ble_eq_true rfl) (Nat.le_of_ble_eq_true rfl) rfl ⟨_, rfl, ⟨by unfold m_eo; rw [if_neg (by decide), if_neg (by decide), if_pos rfl, if_neg (by omega)], rfl, rfl⟩⟩
    · refine g_aload_n C dX4_edgeOf_99 rfl 3 rfl ?_
      refine g_V0I C (met_X4_rowEdges G I) (cwV 0 C.2.2.2.2.1 (lw_V q1197 q1199 qs21 q79 q1200) rfl rfl rfl ok_X4_rowEdges ⟨(Nat.le_of_ble_eq_true rfl), (Nat.le_of_ble_eq_true rfl)⟩) (mh_0 G) rfl (Nat.le_of_ble_eq_true rfl) dX4_edgeOf_100 ⟨(Nat.le_of_ble_eq_true rfl), (Nat.le_of_ble_eq_true rfl)⟩ (fun r_100 h_100 n_100 hp_100 hn_100 => ?_)
      obtain ⟨rfl, rfl, rfl⟩ := hp_100
      refine g_iload_n C dX4_edgeOf_103 rfl 4 rfl ?_
      refine g_iaddN C dX4_edgeOf_104 ?_
      refine g_goto (tgt := 110) C dX4_edgeOf_105 (by decide) ?_
      exact g_iret C hr hlk dX4_edgeOf_110 (Nat.le_of_ble_eq_true rfl) (Nat.le_of_ble_eq_true rfl) rfl ⟨_, rfl, ⟨by unfold m_eo; rw [if_neg (by decide), if_neg (by decide), if_pos rfl, if_pos c_96], rfl, rfl⟩⟩
  · refine g_tableOut (tgt := 111) C dX4_edgeOf_18 (by decide) (by decide) ?_
    refine g_iload C dX4_edgeOf_111 1 rfl ?_
    refine g_if_leN (tgt := 130) C dX4_edgeOf_113 (by decide) (by omega) (fun c_113 => ?_) (fun c_113 => ?_)
    · refine g_bipush C dX4_edgeOf_130 kb_m4 ?_
      exact g_iret C hr hlk dX4_edgeOf_132 (Nat.le_of_ble_eq_true rfl) (Nat.le_of_ble_eq_true rfl) rfl ⟨_, rfl, ⟨by simp [m_eo, c_113], rfl, rfl⟩⟩
    · refine g_iload C dX4_edgeOf_116 0 rfl ?_
      refine g_iload_n C dX4_edgeOf_118 rfl 2 rfl ?_
      refine g_iconst C dX4_edgeOf_119 kc_1 ?_
      refine g_isubN C dX4_edgeOf_120 (by omega) ?_
      refine g_imulN C dX4_edgeOf_121 ?_
      refine g_iload C dX4_edgeOf_122 1 rfl ?_
      refine g_iaddN C dX4_edgeOf_124 ?_
      refine g_iconst C dX4_edgeOf_125 kc_1 ?_
      refine g_isubN C dX4_edgeOf_126 (by omega) ?_
      refine g_goto (tgt := 132) C dX4_edgeOf_127 (by decide) ?_
      exact g_iret C hr hlk dX4_edgeOf_132 (Nat.le_of_ble_eq_true rfl) (Nat.le_of_ble_eq_true rfl) rfl ⟨_, rfl, ⟨by simp [m_eo, c_113], rfl, rfl⟩⟩
theorem ok_X4_isAgreed : yX4_isAgreed.cls = "MapSheetsModel" ∧ yX4_isAgreed.cls ≠ "java/lang/invoke/MethodHandle" ∧ yX4_isAgreed.cls ≠ "java/lang/invoke/VarHandle" ∧ (parseMethodDescriptor yX4_isAgreed.desc).map (fun d => d.parameters.length) = some 1 := by decide +kernel
set_option maxHeartbeats 4000000 in
set_option maxRecDepth 100000 in
theorem met_X4_isAgreed {l : Launch} {D : va_G} {b0 n : Nat} {h0 : GH} {g : Nat → Nat} {s w a t b : Nat → Int32} {st ty : Int32} {e : Nat} (G : gM b0 g) (he : e < 60) : gMet l yX4_isAgreed cX4_isAgreed 2 ((some .boolean)) 0 0 0 0 D b0 (mh h0 D g s w a t b st ty) n [.ref (g 0), .int (nI e)] (pI (fun r' h' n' => bI (decide (s (4 + e) = 1)) = r' ∧ (mh h0 D g s w a t b st ty) = h' ∧ n = n')) := by
  refine gMet.of (lv := [(0, _), (1, _)]) (by decide) (Nat.le_of_ble_eq_true rfl) rfl ?_
  intro p_ e_ U0 m_ args_ below_ meth_ co_ C hr hlk hnm
  refine g_aload_n C dX4_isAgreed_0 rfl 0 rfl ?_
  refine g_get C in_X4 (mh_0 G) rfl 0 (by decide) q1160 (fun _ hx => hx) rfl dX4_isAgreed_1 ?_
  refine g_iconst C dX4_isAgreed_4 kc_4 ?_
  refine g_iload_n C dX4_isAgreed_5 rfl 1 rfl ?_
  refine g_iaddN C dX4_isAgreed_6 ?_
  refine g_ialdN C (mh_1 G) (by omega) (by omega) dX4_isAgreed_7 ?_
  refine g_iconst C dX4_isAgreed_8 kc_1 ?_
  refine g_icmp_ne (tgt := 16) C dX4_isAgreed_9 (by decide) (fun c_9 => ?_) (fun c_9 => ?_)
  · refine g_iconst C dX4_isAgreed_16 kc_0 ?_
    exact g_iret C hr hlk dX4_isAgreed_17 (Nat.le_of_ble_eq_true rfl) (Nat.le_of_ble_eq_true rfl) rfl ⟨_, rfl, ⟨(bI_f (decide_eq_false c_9)).symm, rfl, rfl⟩⟩
  · refine g_iconst C dX4_isAgreed_12 kc_1 ?_
    refine g_goto (tgt := 17) C dX4_isAgreed_13 (by decide) ?_
    exact g_iret C hr hlk dX4_isAgreed_17 (Nat.le_of_ble_eq_true rfl) (Nat.le_of_ble_eq_true rfl) rfl ⟨_, rfl, ⟨(bI_t (decide_eq_true c_9)).symm, rfl, rfl⟩⟩
theorem ok_X4_firstMeans : yX4_firstMeans.cls = "MapSheetsModel" ∧ yX4_firstMeans.cls ≠ "java/lang/invoke/MethodHandle" ∧ yX4_firstMeans.cls ≠ "java/lang/invoke/VarHandle" ∧ (parseMethodDescriptor yX4_firstMeans.desc).map (fun d => d.parameters.length) = some 2 := by decide +kernel
set_option maxHeartbeats 4000000 in
set_option maxRecDepth 100000 in
theorem met_X4_firstMeans {l : Launch} {D : va_G} {b0 n : Nat} {h0 : GH} {g : Nat → Nat} {s w a t b : Nat → Int32} {st ty : Int32} {c : Nat} {r : Nat} {e : Nat} {q : Nat} (G : gM b0 g) (I : MI s c r) (V : MV s) (he : e < m_ed c r) (hq : q < 10) : gMet l yX4_firstMeans cX4_firstMeans 3 ((some .int)) 3 69 0 0 D b0 (mh h0 D g s w a t b st ty) n [.ref (g 0), .int (nI e), .int (nI q)] (pI (fun r' h' n' => nI (m_fm s c r e q) = r' ∧ (mh h0 D g s w a t b st ty) = h' ∧ n = n')) := by
  refine gMet.of (lv := [(0, _), (1, _), (2, _)]) (by decide) (Nat.le_of_ble_eq_true rfl) rfl ?_
  intro p_ e_ U0 m_ args_ below_ meth_ co_ C hr hlk hnm
  have hI := m_ed_le I
  obtain ⟨I0, I1, I2, I3, I4, I5⟩ := id I
  have hfs := m_fs_lt I he
  have hsd := m_sd_lt c r e
  refine g_aload_n C dX4_firstMeans_0 rfl 0 rfl ?_
  refine g_aload_n C dX4_firstMeans_1 rfl 0 rfl ?_
  refine g_iload_n C dX4_firstMeans_2 rfl 1 rfl ?_
  refine g_V1I C (met_X4_firstOf G I (by first | assumption | omega)) (cwV 1 C.2.2.2.2.1 (lw_V q1261 q1263 qs35 q79 q1264) rfl rfl rfl ok_X4_firstOf ⟨(Nat.le_of_ble_eq_true rfl), (Nat.le_of_ble_eq_true rfl)⟩) (mh_0 G) rfl (Nat.le_of_ble_eq_true rfl) dX4_firstMeans_3 ⟨(Nat.le_of_ble_eq_true rfl), (Nat.le_of_ble_eq_true rfl)⟩ (fun r_3 h_3 n_3 hp_3 hn_3 => ?_)
  obtain ⟨rfl, rfl, rfl⟩ := hp_3
  refine g_aload_n C dX4_firstMeans_6 rfl 0 rfl ?_
  refine g_iload_n C dX4_firstMeans_7 rfl 1 rfl ?_
  refine g_V1I C (met_X4_sideOf G I (by first | assumption | omega)) (cwV 1 C.2.2.2.2.1 (lw_V q1265 q1267 qs36 q79 q1268) rfl rfl rfl ok_X4_sideOf ⟨(Nat.le_of_ble_eq_true rfl), (Nat.le_of_ble_eq_true rfl)⟩) (mh_0 G) rfl (Nat.le_of_ble_eq_true rfl) dX4_firstMeans_8 ⟨(Nat.le_of_ble_eq_true rfl), (Nat.le_of_ble_eq_true rfl)⟩ (fun r_8 h_8 n_8 hp_8 hn_8 => ?_)
  obtain ⟨rfl, rfl, rfl⟩ := hp_8
  refine g_iload_n C dX4_firstMeans_11 rfl 2 rfl ?_
  refine g_V3I C (met_X4_meansAt G V (by omega) (by omega) (by omega)) (cwV 3 C.2.2.2.2.1 (lw_V q1269 q1271 qs37 q79 q1272) rfl rfl rfl ok_X4_meansAt ⟨(Nat.le_of_ble_eq_true rfl), (Nat.le_of_ble_eq_true rfl)⟩) (mh_0 G) rfl (Nat.le_of_ble_eq_true rfl) dX4_firstMeans_12 ⟨(Nat.le_of_ble_eq_true rfl), (Nat.le_of_ble_eq_true rfl)⟩ (fun r_12 h_12 n_12 hp_12 hn_12 => ?_)
  obtain ⟨rfl, rfl, rfl⟩ := hp_12
  exact g_iret C hr hlk dX4_firstMeans_15 (Nat.le_of_ble_eq_true rfl) (Nat.le_of_ble_eq_true rfl) rfl ⟨_, rfl, ⟨rfl, rfl, rfl⟩⟩
theorem ok_X4_secondMeans : yX4_secondMeans.cls = "MapSheetsModel" ∧ yX4_secondMeans.cls ≠ "java/lang/invoke/MethodHandle" ∧ yX4_secondMeans.cls ≠ "java/lang/invoke/VarHandle" ∧ (parseMethodDescriptor yX4_secondMeans.desc).map (fun d => d.parameters.length) = some 2 := by decide +kernel
set_option maxHeartbeats 4000000 in
set_option maxRecDepth 100000 in
theorem met_X4_secondMeans {l : Launch} {D : va_G} {b0 n : Nat} {h0 : GH} {g : Nat → Nat} {s w a t b : Nat → Int32} {st ty : Int32} {c : Nat} {r : Nat} {e : Nat} {q : Nat} (G : gM b0 g) (I : MI s c r) (V : MV s) (he : e < m_ed c r) (hq : q < 10) : gMet l yX4_secondMeans cX4_secondMeans 3 ((some .int)) 3 69 0 0 D b0 (mh h0 D g s w a t b st ty) n [.ref (g 0), .int (nI e), .int (nI q)] (pI (fun r' h' n' => nI (m_sm s c r e q) = r' ∧ (mh h0 D g s w a t b st ty) = h' ∧ n = n')) := by
  refine gMet.of (lv := [(0, _), (1, _), (2, _)]) (by decide) (Nat.le_of_ble_eq_true rfl) rfl ?_
  intro p_ e_ U0 m_ args_ below_ meth_ co_ C hr hlk hnm
  have hI := m_ed_le I
  obtain ⟨I0, I1, I2, I3, I4, I5⟩ := id I
  have hfs := m_fs_lt I he
  have hsd := m_sd_lt c r e
  refine g_aload_n C dX4_secondMeans_0 rfl 0 rfl ?_
  refine g_aload_n C dX4_secondMeans_1 rfl 0 rfl ?_
  refine g_iload_n C dX4_secondMeans_2 rfl 1 rfl ?_
  refine g_V1I C (met_X4_secondOf G I (by first | assumption | omega)) (cwV 1 C.2.2.2.2.1 (lw_V q1277 q1279 qs39 q79 q1280) rfl rfl rfl ok_X4_secondOf ⟨(Nat.le_of_ble_eq_true rfl), (Nat.le_of_ble_eq_true rfl)⟩) (mh_0 G) rfl (Nat.le_of_ble_eq_true rfl) dX4_secondMeans_3 ⟨(Nat.le_of_ble_eq_true rfl), (Nat.le_of_ble_eq_true rfl)⟩ (fun r_3 h_3 n_3 hp_3 hn_3 => ?_)
  obtain ⟨rfl, rfl, rfl⟩ := hp_3
  refine g_aload_n C dX4_secondMeans_6 rfl 0 rfl ?_
  refine g_iload_n C dX4_secondMeans_7 rfl 1 rfl ?_
  refine g_V1I C (met_X4_sideOf G I (by first | assumption | omega)) (cwV 1 C.2.2.2.2.1 (lw_V q1265 q1267 qs36 q79 q1268) rfl rfl rfl ok_X4_sideOf ⟨(Nat.le_of_ble_eq_true rfl), (Nat.le_of_ble_eq_true rfl)⟩) (mh_0 G) rfl (Nat.le_of_ble_eq_true rfl) dX4_secondMeans_8 ⟨(Nat.le_of_ble_eq_true rfl), (Nat.le_of_ble_eq_true rfl)⟩ (fun r_8 h_8 n_8 hp_8 hn_8 => ?_)
  obtain ⟨rfl, rfl, rfl⟩ := hp_8
  refine g_iconst C dX4_secondMeans_11 kc_1 ?_
  refine g_icmp_neN (tgt := 19) C dX4_secondMeans_12 (by decide) (by omega) (by omega) (fun c_12 => ?_) (fun c_12 => ?_)
  · refine g_iconst C dX4_secondMeans_19 kc_0 ?_
    refine g_iload_n C dX4_secondMeans_20 rfl 2 rfl ?_
    refine g_V3I C (met_X4_meansAt G V (by omega) (by omega) (by omega)) (cwV 3 C.2.2.2.2.1 (lw_V q1269 q1271 qs37 q79 q1272) rfl rfl rfl ok_X4_meansAt ⟨(Nat.le_of_ble_eq_true rfl), (Nat.le_of_ble_eq_true rfl)⟩) (mh_0 G) rfl (Nat.le_of_ble_eq_true rfl) dX4_secondMeans_21 ⟨(Nat.le_of_ble_eq_true rfl), (Nat.le_of_ble_eq_true rfl)⟩ (fun r_21 h_21 n_21 hp_21 hn_21 => ?_)
    obtain ⟨rfl, rfl, rfl⟩ := hp_21
    exact g_iret C hr hlk dX4_secondMeans_24 (Nat.le_of_ble_eq_true rfl) (Nat.le_of_ble_eq_true rfl) rfl ⟨_, rfl, ⟨by unfold m_sm m_op; rw [if_neg c_12], rfl, rfl⟩⟩
  · refine g_iconst C dX4_secondMeans_15 kc_3 ?_
    refine g_goto (tgt := 20) C dX4_secondMeans_16 (by decide) ?_
    refine g_iload_n C dX4_secondMeans_20 rfl 2 rfl ?_
    refine g_V3I C (met_X4_meansAt G V (by omega) (by omega) (by omega)) (cwV 3 C.2.2.2.2.1 (lw_V q1269 q1271 qs37 q79 q1272) rfl rfl rfl ok_X4_meansAt ⟨(Nat.le_of_ble_eq_true rfl), (Nat.le_of_ble_eq_true rfl)⟩) (mh_0 G) rfl (Nat.le_of_ble_eq_true rfl) dX4_secondMeans_21 ⟨(Nat.le_of_ble_eq_true rfl), (Nat.le_of_ble_eq_true rfl)⟩ (fun r_21 h_21 n_21 hp_21 hn_21 => ?_)
    obtain ⟨rfl, rfl, rfl⟩ := hp_21
    exact g_iret C hr hlk dX4_secondMeans_24 (Nat.le_of_ble_eq_true rfl) (Nat.le_of_ble_eq_true rfl) rfl ⟨_, rfl, ⟨by unfold m_sm m_op; rw [if_pos c_12], rfl, rfl⟩⟩
theorem ok_X4_reasonAt : yX4_reasonAt.cls = "MapSheetsModel" ∧ yX4_reasonAt.cls ≠ "java/lang/invoke/MethodHandle" ∧ yX4_reasonAt.cls ≠ "java/lang/invoke/VarHandle" ∧ (parseMethodDescriptor yX4_reasonAt.desc).map (fun d => d.parameters.length) = some 2 := by decide +kernel
set_option maxHeartbeats 4000000 in
set_option maxRecDepth 100000 in
theorem met_X4_reasonAt {l : Launch} {D : va_G} {b0 n : Nat} {h0 : GH} {g : Nat → Nat} {s w a t b : Nat → Int32} {st ty : Int32} {c : Nat} {r : Nat} {e : Nat} {q : Nat} (G : gM b0 g) (I : MI s c r) (V : MV s) (he : e < m_ed c r) (hq : q < 10) : gMet l yX4_reasonAt cX4_reasonAt 5 ((some .int)) 4 91 0 0 D b0 (mh h0 D g s w a t b st ty) n [.ref (g 0), .int (nI e), .int (nI q)] (pI (fun r' h' n' => nI (m_rs s c r e q) = r' ∧ (mh h0 D g s w a t b st ty) = h' ∧ n = n')) := by
  refine gMet.of (lv := [(0, _), (1, _), (2, _)]) (by decide) (Nat.le_of_ble_eq_true rfl) rfl ?_
  intro p_ e_ U0 m_ args_ below_ meth_ co_ C hr hlk hnm
  have hI := m_ed_le I
  obtain ⟨I0, I1, I2, I3, I4, I5⟩ := id I
  have hfs := m_fs_lt I he
  have hsd := m_sd_lt c r e
  have hop := m_op_lt (m_sd c r e)
  have hm1 : m_fm s c r e q ≤ 10 := m_mean_le V (by omega) (by omega) hq
  have hm2 : m_sm s c r e q ≤ 10 := m_mean_le V (by omega) (by omega) hq
  refine g_aload_n C dX4_reasonAt_0 rfl 0 rfl ?_
  refine g_iload_n C dX4_reasonAt_1 rfl 1 rfl ?_
  refine g_iload_n C dX4_reasonAt_2 rfl 2 rfl ?_
  refine g_V2I C (met_X4_firstMeans G I V (by first | assumption | omega) (by omega)) (cwV 2 C.2.2.2.2.1 (lw_V q1257 q1259 qs34 q79 q1260) rfl rfl rfl ok_X4_firstMeans ⟨(Nat.le_of_ble_eq_true rfl), (Nat.le_of_ble_eq_true rfl)⟩) (mh_0 G) rfl (Nat.le_of_ble_eq_true rfl) dX4_reasonAt_3 ⟨(Nat.le_of_ble_eq_true rfl), (Nat.le_of_ble_eq_true rfl)⟩ (fun r_3 h_3 n_3 hp_3 hn_3 => ?_)
  obtain ⟨rfl, rfl, rfl⟩ := hp_3
  refine g_istore_n (lv' := [(3, _), (0, _), (1, _), (2, _)]) C dX4_reasonAt_6 rfl (by decide) rfl ?_
  refine g_aload_n C dX4_reasonAt_7 rfl 1 rfl ?_
  refine g_iload_n C dX4_reasonAt_8 rfl 2 rfl ?_
  refine g_iload_n C dX4_reasonAt_9 rfl 3 rfl ?_
  refine g_V2I C (met_X4_secondMeans G I V (by first | assumption | omega) (by omega)) (cwV 2 C.2.2.2.2.1 (lw_V q1273 q1275 qs38 q79 q1276) rfl rfl rfl ok_X4_secondMeans ⟨(Nat.le_of_ble_eq_true rfl), (Nat.le_of_ble_eq_true rfl)⟩) (mh_0 G) rfl (Nat.le_of_ble_eq_true rfl) dX4_reasonAt_10 ⟨(Nat.le_of_ble_eq_true rfl), (Nat.le_of_ble_eq_true rfl)⟩ (fun r_10 h_10 n_10 hp_10 hn_10 => ?_)
  obtain ⟨rfl, rfl, rfl⟩ := hp_10
  refine g_istore (lv' := [(4, _), (3, _), (0, _), (1, _), (2, _)]) C dX4_reasonAt_13 (by decide) rfl ?_
  refine g_iload_n C dX4_reasonAt_15 rfl 1 rfl ?_
  refine g_iload C dX4_reasonAt_16 0 rfl ?_
  refine g_icmp_neN (tgt := 25) C dX4_reasonAt_18 (by decide) (by omega) (by omega) (fun c_18 => ?_) (fun c_18 => ?_)
  · refine g_iload_n C dX4_reasonAt_25 rfl 1 rfl ?_
    refine g_bipush C dX4_reasonAt_26 kb_10 ?_
    refine g_icmp_eqN (tgt := 38) C dX4_reasonAt_28 (by decide) (by omega) (by omega) (fun c_28 => ?_) (fun c_28 => ?_)
    · refine g_iconst C dX4_reasonAt_38 kc_1 ?_
      refine g_goto (tgt := 43) C dX4_reasonAt_39 (by decide) ?_
      exact g_iret C hr hlk dX4_reasonAt_43 (Nat.le_of_ble_eq_true rfl) (Nat.le_of_ble_eq_true rfl) rfl ⟨_, rfl, ⟨by unfold m_rs; first | rw [if_pos c_18] | rw [if_neg c_18, if_pos (Or.inl c_28)] | rw [if_neg c_18, if_pos (Or.inr c_35)] | rw [if_neg c_18, if_neg (by omega)], rfl, rfl⟩⟩
    · refine g_iload C dX4_reasonAt_31 0 rfl ?_
      refine g_bipush C dX4_reasonAt_33 kb_10 ?_
      refine g_icmp_neN (tgt := 42) C dX4_reasonAt_35 (by decide) (by omega) (by omega) (fun c_35 => ?_) (fun c_35 => ?_)
      · refine g_iconst C dX4_reasonAt_42 kc_2 ?_
        exact g_iret C hr hlk dX4_reasonAt_43 (Nat.le_of_ble_eq_true rfl) (Nat.le_of_ble_eq_true rfl) rfl ⟨_, rfl, ⟨by unfold m_rs; first | rw [if_pos c_18] | rw [if_neg c_18, if_pos (Or.inl c_28)] | rw [if_neg c_18, if_pos (Or.inr c_35)] | rw [if_neg c_18, if_neg (by omega)], rfl, rfl⟩⟩
      · refine g_iconst C dX4_reasonAt_38 kc_1 ?_
        refine g_goto (tgt := 43) C dX4_reasonAt_39 (by decide) ?_
        exact g_iret C hr hlk dX4_reasonAt_43 (Nat.le_of_ble_eq_true rfl) (Nat.le_of_ble_eq_true rfl) rfl ⟨_, rfl, ⟨by unfold m_rs; first | rw [if_pos c_18] | rw [if_neg c_18, if_pos (Or.inl c_28)] | rw [if_neg c_18, if_pos (Or.inr c_35)] | rw [if_neg c_18, if_neg (by omega)], rfl, rfl⟩⟩
  · refine g_iconst C dX4_reasonAt_21 kc_0 ?_
    refine g_goto (tgt := 43) C dX4_reasonAt_22 (by decide) ?_
    exact g_iret C hr hlk dX4_reasonAt_43 (Nat.le_of_ble_eq_true rfl) (Nat.le_of_ble_eq_true rfl) rfl ⟨_, rfl, ⟨by unfold m_rs; first | rw [if_pos c_18] | rw [if_neg c_18, if_pos (Or.inl c_28)] | rw [if_neg c_18, if_pos (Or.inr c_35)] | rw [if_neg c_18, if_neg (by omega)], rfl, rfl⟩⟩
theorem ok_X4_quarrels : yX4_quarrels.cls = "MapSheetsModel" ∧ yX4_quarrels.cls ≠ "java/lang/invoke/MethodHandle" ∧ yX4_quarrels.cls ≠ "java/lang/invoke/VarHandle" ∧ (parseMethodDescriptor yX4_quarrels.desc).map (fun d => d.parameters.length) = some 1 := by decide +kernel
set_option maxHeartbeats 4000000 in
set_option maxRecDepth 100000 in
theorem met_X4_quarrels {l : Launch} {D : va_G} {b0 n : Nat} {h0 : GH} {g : Nat → Nat} {s w a t b : Nat → Int32} {st ty : Int32} {c : Nat} {r : Nat} {e : Nat} (G : gM b0 g) (I : MI s c r) (V : MV s) (he : e < m_ed c r) : gMet l yX4_quarrels cX4_quarrels 4 ((some .int)) 5 115 0 0 D b0 (mh h0 D g s w a t b st ty) n [.ref (g 0), .int (nI e)] (pI (fun r' h' n' => nI (m_qn s c r e) = r' ∧ (mh h0 D g s w a t b st ty) = h' ∧ n = n')) := by
  refine gMet.of (lv := [(0, _), (1, _)]) (by decide) (Nat.le_of_ble_eq_true rfl) rfl ?_
  intro p_ e_ U0 m_ args_ below_ meth_ co_ C hr hlk hnm
  have hI := m_ed_le I
  obtain ⟨I0, I1, I2, I3, I4, I5⟩ := id I
  have hfs := m_fs_lt I he
  refine g_iconst C dX4_quarrels_0 kc_0 ?_
  refine g_istore_n (lv' := [(2, _), (0, _), (1, _)]) C dX4_quarrels_1 rfl (by decide) rfl ?_
  refine g_iconst C dX4_quarrels_2 kc_0 ?_
  refine g_istore_n (lv' := [(3, _), (2, _), (0, _), (1, _)]) C dX4_quarrels_3 rfl (by decide) rfl ?_
  have loop : ∀ (N_ i : Nat), i ≤ 10 → 10 < i + N_ → gW p_ l e_ (headSpec (ws_ yX4_quarrels cX4_quarrels 4 ((some .int))) (gRm 5 115 0 0)).room U0 m_ args_ below_ meth_ co_ (MQ below_ (gQc D b0 (pI (fun r' h' n' => nI (m_qn s c r e) = r' ∧ (mh h0 D g s w a t b st ty) = h' ∧ n = n'))) args_ U0 0 0 (gA b0)) D b0 4 (mh h0 D g s w a t b st ty) n 0 0 4 [(0, .ref (g 0)), (1, .int (nI e)), (2, .int (nI (cnt (fun p => decide (0 < m_rs s c r e p)) i))), (3, .int (nI i))] [] := by
    intro N_
    induction N_ with
    | zero => intro i  h1_ h2_; exact absurd h2_ (by omega)
    | succ N_ ih =>
      intro i  h1_ h2_
      refine g_iload_n C dX4_quarrels_4 rfl 3 rfl ?_
      refine g_bipush C dX4_quarrels_5 kb_10 ?_
      refine g_icmp_geN (tgt := 33) C dX4_quarrels_7 (by decide) (by omega) (by omega) (fun c_7 => ?_) (fun c_7 => ?_)
      · refine g_iload_n C dX4_quarrels_33 rfl 2 rfl ?_
        exact g_iret C hr hlk dX4_quarrels_34 (Nat.le_of_ble_eq_true rfl) (Nat.le_of_ble_eq_true rfl) rfl ⟨_, rfl, ⟨by rw [show i = 10 by omega]; rfl, rfl, rfl⟩⟩
      · refine g_iload_n C dX4_quarrels_10 rfl 2 rfl ?_
        refine g_aload_n C dX4_quarrels_11 rfl 0 rfl ?_
        refine g_iload_n C dX4_quarrels_12 rfl 1 rfl ?_
        refine g_iload_n C dX4_quarrels_13 rfl 3 rfl ?_
        refine g_V2I C (met_X4_reasonAt G I V (by first | assumption | omega) (by omega)) (cwV 2 C.2.2.2.2.1 (lw_V q1253 q1255 qs33 q79 q1256) rfl rfl rfl ok_X4_reasonAt ⟨(Nat.le_of_ble_eq_true rfl), (Nat.le_of_ble_eq_true rfl)⟩) (mh_0 G) rfl (Nat.le_of_ble_eq_true rfl) dX4_quarrels_14 ⟨(Nat.le_of_ble_eq_true rfl), (Nat.le_of_ble_eq_true rfl)⟩ (fun r_14 h_14 n_14 hp_14 hn_14 => ?_)
        obtain ⟨rfl, rfl, rfl⟩ := hp_14
        have hrs : m_rs s c r e i ≤ 2 := by unfold m_rs; split <;> (try split) <;> omega
        refine g_if_leN (tgt := 24) C dX4_quarrels_17 (by decide) (by omega) (fun c_17 => ?_) (fun c_17 => ?_)
        · refine g_iconst C dX4_quarrels_24 kc_0 ?_
          refine g_iaddN C dX4_quarrels_25 ?_
          refine g_istore_n (lv' := [(2, _), (0, _), (1, _), (3, _)]) C dX4_quarrels_26 rfl (by decide) rfl ?_
          refine g_iinc (lv' := [(3, _), (2, _), (0, _), (1, _)]) (t := 3) C dX4_quarrels_27 rfl (nI_1 _) (by decide) rfl ?_
          refine g_goto (tgt := 4) C dX4_quarrels_30 (by decide) ?_
          refine g_pick (lv' := [(0, _), (1, _), (2, _), (3, _)]) [2, 3, 1, 0] rfl ?_
          refine g_eq (lv' := [(0, .ref (g 0)), (1, .int (nI e)), (2, .int (nI (cnt (fun p => decide (0 < m_rs s c r e p)) (i + 1)))), (3, .int (nI (i + 1)))]) rfl (by rw [cnt_n (decide_eq_false (by omega))]) rfl ?_
          exact ih (i + 1) (by omega) (by omega)
        · refine g_iconst C dX4_quarrels_20 kc_1 ?_
          refine g_goto (tgt := 25) C dX4_quarrels_21 (by decide) ?_
          refine g_iaddN C dX4_quarrels_25 ?_
          refine g_istore_n (lv' := [(2, _), (0, _), (1, _), (3, _)]) C dX4_quarrels_26 rfl (by decide) rfl ?_
          refine g_iinc (lv' := [(3, _), (2, _), (0, _), (1, _)]) (t := 3) C dX4_quarrels_27 rfl (nI_1 _) (by decide) rfl ?_
          refine g_goto (tgt := 4) C dX4_quarrels_30 (by decide) ?_
          refine g_pick (lv' := [(0, _), (1, _), (2, _), (3, _)]) [2, 3, 1, 0] rfl ?_
          refine g_eq (lv' := [(0, .ref (g 0)), (1, .int (nI e)), (2, .int (nI (cnt (fun p => decide (0 < m_rs s c r e p)) (i + 1)))), (3, .int (nI (i + 1)))]) rfl (by rw [cnt_s (decide_eq_true (by omega))]) rfl ?_
          exact ih (i + 1) (by omega) (by omega)
  refine g_pick (lv' := [(0, _), (1, _), (2, _), (3, _)]) [2, 3, 1, 0] rfl ?_
  exact loop (10 + 1) 0  (by omega) (by omega)
theorem ok_X4_crossings : yX4_crossings.cls = "MapSheetsModel" ∧ yX4_crossings.cls ≠ "java/lang/invoke/MethodHandle" ∧ yX4_crossings.cls ≠ "java/lang/invoke/VarHandle" ∧ (parseMethodDescriptor yX4_crossings.desc).map (fun d => d.parameters.length) = some 1 := by decide +kernel
set_option maxHeartbeats 4000000 in
set_option maxRecDepth 100000 in
theorem met_X4_crossings {l : Launch} {D : va_G} {b0 n : Nat} {h0 : GH} {g : Nat → Nat} {s w a t b : Nat → Int32} {st ty : Int32} {c : Nat} {r : Nat} {e : Nat} (G : gM b0 g) (I : MI s c r) (V : MV s) (he : e < m_ed c r) : gMet l yX4_crossings cX4_crossings 4 ((some .int)) 4 91 0 0 D b0 (mh h0 D g s w a t b st ty) n [.ref (g 0), .int (nI e)] (pI (fun r' h' n' => nI (m_cr s c r e) = r' ∧ (mh h0 D g s w a t b st ty) = h' ∧ n = n')) := by
  refine gMet.of (lv := [(0, _), (1, _)]) (by decide) (Nat.le_of_ble_eq_true rfl) rfl ?_
  intro p_ e_ U0 m_ args_ below_ meth_ co_ C hr hlk hnm
  have hI := m_ed_le I
  obtain ⟨I0, I1, I2, I3, I4, I5⟩ := id I
  have hfs := m_fs_lt I he
  have hsd := m_sd_lt c r e
  have hop := m_op_lt (m_sd c r e)
  refine g_iconst C dX4_crossings_0 kc_0 ?_
  refine g_istore_n (lv' := [(2, _), (0, _), (1, _)]) C dX4_crossings_1 rfl (by decide) rfl ?_
  refine g_iconst C dX4_crossings_2 kc_0 ?_
  refine g_istore_n (lv' := [(3, _), (2, _), (0, _), (1, _)]) C dX4_crossings_3 rfl (by decide) rfl ?_
  have loop : ∀ (N_ i : Nat), i ≤ 10 → 10 < i + N_ → gW p_ l e_ (headSpec (ws_ yX4_crossings cX4_crossings 4 ((some .int))) (gRm 4 91 0 0)).room U0 m_ args_ below_ meth_ co_ (MQ below_ (gQc D b0 (pI (fun r' h' n' => nI (m_cr s c r e) = r' ∧ (mh h0 D g s w a t b st ty) = h' ∧ n = n'))) args_ U0 0 0 (gA b0)) D b0 4 (mh h0 D g s w a t b st ty) n 0 0 4 [(0, .ref (g 0)), (1, .int (nI e)), (2, .int (nI (cnt (fun p => decide (m_fm s c r e p ≠ 10 ∧ m_sm s c r e p ≠ 10)) i))), (3, .int (nI i))] [] := by
    intro N_
    induction N_ with
    | zero => intro i  h1_ h2_; exact absurd h2_ (by omega)
    | succ N_ ih =>
      intro i  h1_ h2_
      refine g_iload_n C dX4_crossings_4 rfl 3 rfl ?_
      refine g_bipush C dX4_crossings_5 kb_10 ?_
      refine g_icmp_geN (tgt := 46) C dX4_crossings_7 (by decide) (by omega) (by omega) (fun c_7 => ?_) (fun c_7 => ?_)
      · refine g_iload_n C dX4_crossings_46 rfl 2 rfl ?_
        exact g_iret C hr hlk dX4_crossings_47 (Nat.le_of_ble_eq_true rfl) (Nat.le_of_ble_eq_true rfl) rfl ⟨_, rfl, ⟨by rw [show i = 10 by omega]; rfl, rfl, rfl⟩⟩
      · have hm1 : m_fm s c r e i ≤ 10 := m_mean_le V (by omega) (by omega) (by omega)
        have hm2 : m_sm s c r e i ≤ 10 := m_mean_le V (by omega) (by omega) (by omega)
        refine g_iload_n C dX4_crossings_10 rfl 2 rfl ?_
        refine g_aload_n C dX4_crossings_11 rfl 0 rfl ?_
        refine g_iload_n C dX4_crossings_12 rfl 1 rfl ?_
        refine g_iload_n C dX4_crossings_13 rfl 3 rfl ?_
        refine g_V2I C (met_X4_firstMeans G I V (by first | assumption | omega) (by omega)) (cwV 2 C.2.2.2.2.1 (lw_V q1257 q1259 qs34 q79 q1260) rfl rfl rfl ok_X4_firstMeans ⟨(Nat.le_of_ble_eq_true rfl), (Nat.le_of_ble_eq_true rfl)⟩) (mh_0 G) rfl (Nat.le_of_ble_eq_true rfl) dX4_crossings_14 ⟨(Nat.le_of_ble_eq_true rfl), (Nat.le_of_ble_eq_true rfl)⟩ (fun r_14 h_14 n_14 hp_14 hn_14 => ?_)
        obtain ⟨rfl, rfl, rfl⟩ := hp_14
        refine g_bipush C dX4_crossings_17 kb_10 ?_
        refine g_icmp_eqN (tgt := 37) C dX4_crossings_19 (by decide) (by omega) (by omega) (fun c_19 => ?_) (fun c_19 => ?_)
        · refine g_iconst C dX4_crossings_37 kc_0 ?_
          refine g_iaddN C dX4_crossings_38 ?_
          refine g_istore_n (lv' := [(2, _), (0, _), (1, _), (3, _)]) C dX4_crossings_39 rfl (by decide) rfl ?_
          refine g_iinc (lv' := [(3, _), (2, _), (0, _), (1, _)]) (t := 3) C dX4_crossings_40 rfl (nI_1 _) (by decide) rfl ?_
          refine g_goto (tgt := 4) C dX4_crossings_43 (by decide) ?_
          refine g_pick (lv' := [(0, _), (1, _), (2, _), (3, _)]) [2, 3, 1, 0] rfl ?_
          refine g_eq (lv' := [(0, .ref (g 0)), (1, .int (nI e)), (2, .int (nI (cnt (fun p => decide (m_fm s c r e p ≠ 10 ∧ m_sm s c r e p ≠ 10)) (i + 1)))), (3, .int (nI (i + 1)))]) rfl (by rw [cnt_n (decide_eq_false (by omega))]) rfl ?_
          exact ih (i + 1) (by omega) (by omega)
        · refine g_aload_n C dX4_crossings_22 rfl 0 rfl ?_
          refine g_iload_n C dX4_crossings_23 rfl 1 rfl ?_
          refine g_iload_n C dX4_crossings_24 rfl 3 rfl ?_
          refine g_V2I C (met_X4_secondMeans G I V (by first | assumption | omega) (by omega)) (cwV 2 C.2.2.2.2.1 (lw_V q1273 q1275 qs38 q79 q1276) rfl rfl rfl ok_X4_secondMeans ⟨(Nat.le_of_ble_eq_true rfl), (Nat.le_of_ble_eq_true rfl)⟩) (mh_0 G) rfl (Nat.le_of_ble_eq_true rfl) dX4_crossings_25 ⟨(Nat.le_of_ble_eq_true rfl), (Nat.le_of_ble_eq_true rfl)⟩ (fun r_25 h_25 n_25 hp_25 hn_25 => ?_)
          obtain ⟨rfl, rfl, rfl⟩ := hp_25
          refine g_bipush C dX4_crossings_28 kb_10 ?_
          refine g_icmp_eqN (tgt := 37) C dX4_crossings_30 (by decide) (by omega) (by omega) (fun c_30 => ?_) (fun c_30 => ?_)
          · refine g_iconst C dX4_crossings_37 kc_0 ?_
            refine g_iaddN C dX4_crossings_38 ?_
            refine g_istore_n (lv' := [(2, _), (0, _), (1, _), (3, _)]) C dX4_crossings_39 rfl (by decide) rfl ?_
            refine g_iinc (lv' := [(3, _), (2, _), (0, _), (1, _)]) (t := 3) C dX4_crossings_40 rfl (nI_1 _) (by decide) rfl ?_
            refine g_goto (tgt := 4) C dX4_crossings_43 (by decide) ?_
            refine g_pick (lv' := [(0, _), (1, _), (2, _), (3, _)]) [2, 3, 1, 0] rfl ?_
            refine g_eq (lv' := [(0, .ref (g 0)), (1, .int (nI e)), (2, .int (nI (cnt (fun p => decide (m_fm s c r e p ≠ 10 ∧ m_sm s c r e p ≠ 10)) (i + 1)))), (3, .int (nI (i + 1)))]) rfl (by rw [cnt_n (decide_eq_false (by omega))]) rfl ?_
            exact ih (i + 1) (by omega) (by omega)
          · refine g_iconst C dX4_crossings_33 kc_1 ?_
            refine g_goto (tgt := 38) C dX4_crossings_34 (by decide) ?_
            refine g_iaddN C dX4_crossings_38 ?_
            refine g_istore_n (lv' := [(2, _), (0, _), (1, _), (3, _)]) C dX4_crossings_39 rfl (by decide) rfl ?_
            refine g_iinc (lv' := [(3, _), (2, _), (0, _), (1, _)]) (t := 3) C dX4_crossings_40 rfl (nI_1 _) (by decide) rfl ?_
            refine g_goto (tgt := 4) C dX4_crossings_43 (by decide) ?_
            refine g_pick (lv' := [(0, _), (1, _), (2, _), (3, _)]) [2, 3, 1, 0] rfl ?_
            refine g_eq (lv' := [(0, .ref (g 0)), (1, .int (nI e)), (2, .int (nI (cnt (fun p => decide (m_fm s c r e p ≠ 10 ∧ m_sm s c r e p ≠ 10)) (i + 1)))), (3, .int (nI (i + 1)))]) rfl (by rw [cnt_s (decide_eq_true (by omega))]) rfl ?_
            exact ih (i + 1) (by omega) (by omega)
  refine g_pick (lv' := [(0, _), (1, _), (2, _), (3, _)]) [2, 3, 1, 0] rfl ?_
  exact loop (10 + 1) 0  (by omega) (by omega)
