theorem ok_X4_edgesOf : yX4_edgesOf.cls = "MapSheetsModel" ∧ yX4_edgesOf.cls ≠ "java/lang/invoke/MethodHandle" ∧ yX4_edgesOf.cls ≠ "java/lang/invoke/VarHandle" ∧ (parseMethodDescriptor yX4_edgesOf.desc).map (fun d => d.parameters.length) = some 2 := by decide +kernel
set_option maxHeartbeats 4000000 in
set_option maxRecDepth 100000 in
theorem met_X4_edgesOf {l : Launch} {D : va_G} {b0 n : Nat} {h0 : GH} {g : Nat → Nat} {s w a t b : Nat → Int32} {st ty : Int32} {c : Nat} {r : Nat} {k : Nat} {ag : Bool} (G : gM b0 g) (I : MI s c r) (hk : k < c * r) : gMet l yX4_edgesOf cX4_edgesOf 6 ((some .int)) 2 45 0 0 D b0 (mh h0 D g s w a t b st ty) n [.ref (g 0), .int (nI k), .int (bI ag)] (pI (fun r' h' n' => nI (m_eof s c r k ag) = r' ∧ (mh h0 D g s w a t b st ty) = h' ∧ n = n')) := by
  refine gMet.of (lv := [(0, _), (1, _), (2, _)]) (by decide) (Nat.le_of_ble_eq_true rfl) rfl ?_
  intro p_ e_ U0 m_ args_ below_ meth_ co_ C hr hlk hnm
  have hI := m_ed_le I
  obtain ⟨I0, I1, I2, I3, I4, I5⟩ := id I
  refine g_iconst C dX4_edgesOf_0 kc_0 ?_
  refine g_istore_n (lv' := [(3, _), (0, _), (1, _), (2, _)]) C dX4_edgesOf_1 rfl (by decide) rfl ?_
  refine g_iconst C dX4_edgesOf_2 kc_0 ?_
  refine g_istore (lv' := [(4, _), (3, _), (0, _), (1, _), (2, _)]) C dX4_edgesOf_3 (by decide) rfl ?_
  have loop : ∀ (N_ i : Nat), i ≤ 4 → 4 < i + N_ → gW p_ l e_ (headSpec (ws_ yX4_edgesOf cX4_edgesOf 6 ((some .int))) (gRm 2 45 0 0)).room U0 m_ args_ below_ meth_ co_ (MQ below_ (gQc D b0 (pI (fun r' h' n' => nI (m_eof s c r k ag) = r' ∧ (mh h0 D g s w a t b st ty) = h' ∧ n = n'))) args_ U0 0 0 (gA b0)) D b0 6 (mh h0 D g s w a t b st ty) n 0 0 5 [(0, .ref (g 0)), (1, .int (nI k)), (2, .int (bI ag)), (3, .int (nI (cnt (m_ef s c r k ag) i))), (4, .int (nI i))] [] := by
    intro N_
    induction N_ with
    | zero => intro i h1_ h2_; exact absurd h2_ (by omega)
    | succ N_ ih =>
      intro i h1_ h2_
      refine g_iload C dX4_edgesOf_5 4 rfl ?_
      refine g_iconst C dX4_edgesOf_7 kc_4 ?_
      refine g_icmp_geN (tgt := 54) C dX4_edgesOf_8 (by decide) (by omega) (by omega) (fun c_8 => ?_) (fun c_8 => ?_)
      · refine g_iload_n C dX4_edgesOf_54 rfl 3 rfl ?_
        exact g_iret C hr hlk dX4_edgesOf_55 (Nat.le_of_ble_eq_true rfl) (Nat.le_of_ble_eq_true rfl) rfl ⟨_, rfl, ⟨by rw [show i = 4 by omega]; rfl, rfl, rfl⟩⟩
      · refine g_aload_n C dX4_edgesOf_11 rfl 0 rfl ?_
        refine g_iload_n C dX4_edgesOf_12 rfl 1 rfl ?_
        refine g_iload C dX4_edgesOf_13 4 rfl ?_
        refine g_V2I C (met_X4_edgeOf G I (by omega) (by omega)) (cwV 2 C.2.2.2.2.1 (lw_V q1313 q1315 qs43 q79 q1316) rfl rfl rfl ok_X4_edgeOf ⟨(Nat.le_of_ble_eq_true rfl), (Nat.le_of_ble_eq_true rfl)⟩) (mh_0 G) rfl (Nat.le_of_ble_eq_true rfl) dX4_edgesOf_15 ⟨(Nat.le_of_ble_eq_true rfl), (Nat.le_of_ble_eq_true rfl)⟩ (fun r_15 h_15 n_15 hp_15 hn_15 => ?_)
        obtain ⟨rfl, rfl, rfl⟩ := hp_15
        refine g_istore (lv' := [(5, _), (0, _), (1, _), (2, _), (3, _), (4, _)]) C dX4_edgesOf_18 (by decide) rfl ?_
        refine g_iload_n C dX4_edgesOf_20 rfl 4 rfl ?_
        refine g_iload C dX4_edgesOf_21 0 rfl ?_
        refine g_bipush C dX4_edgesOf_23 kb_m4 ?_
        refine g_icmp_eq (tgt := 45) C dX4_edgesOf_25 (by decide) (fun c_25 => ?_) (fun c_25 => ?_)
        · refine g_iconst C dX4_edgesOf_45 kc_0 ?_
          refine g_iaddN C dX4_edgesOf_46 ?_
          refine g_istore_n (lv' := [(3, _), (5, _), (0, _), (1, _), (2, _), (4, _)]) C dX4_edgesOf_47 rfl (by decide) rfl ?_
          refine g_iinc (lv' := [(4, _), (3, _), (5, _), (0, _), (1, _), (2, _)]) (t := 5) C dX4_edgesOf_48 rfl (nI_1 _) (by decide) rfl ?_
          refine g_goto (tgt := 5) C dX4_edgesOf_51 (by decide) ?_
          refine g_pick (lv' := [(0, _), (1, _), (2, _), (3, _), (4, _)]) [3, 4, 5, 1, 0] rfl ?_
          refine g_eq (lv' := [(0, .ref (g 0)), (1, .int (nI k)), (2, .int (bI ag)), (3, .int (nI (cnt (m_ef s c r k ag) (i + 1)))), (4, .int (nI (i + 1)))]) rfl (by rw [cnt_n (by unfold m_ef; rw [m_eo_f I hk (by omega) c_25]; rfl)]) rfl ?_
          exact ih (i + 1) (by omega) (by omega)
        · have heo := m_eo_t I hk (by omega) c_25
          rw [heo.2.1]
          have hej := heo.2.2
          refine g_iload_n C dX4_edgesOf_28 rfl 3 rfl ?_
          refine g_if_eqB (tgt := 41) C dX4_edgesOf_29 (by decide) (fun c_29 => ?_) (fun c_29 => ?_)
          · refine g_iconst C dX4_edgesOf_41 kc_1 ?_
            refine g_goto (tgt := 46) C dX4_edgesOf_42 (by decide) ?_
            refine g_iaddN C dX4_edgesOf_46 ?_
            refine g_istore_n (lv' := [(3, _), (5, _), (0, _), (1, _), (2, _), (4, _)]) C dX4_edgesOf_47 rfl (by decide) rfl ?_
            refine g_iinc (lv' := [(4, _), (3, _), (5, _), (0, _), (1, _), (2, _)]) (t := 5) C dX4_edgesOf_48 rfl (nI_1 _) (by decide) rfl ?_
            refine g_goto (tgt := 5) C dX4_edgesOf_51 (by decide) ?_
            refine g_pick (lv' := [(0, _), (1, _), (2, _), (3, _), (4, _)]) [3, 4, 5, 1, 0] rfl ?_
            refine g_eq (lv' := [(0, .ref (g 0)), (1, .int (nI k)), (2, .int (bI ag)), (3, .int (nI (cnt (m_ef s c r k ag) (i + 1)))), (4, .int (nI (i + 1)))]) rfl (by rw [cnt_s (by unfold m_ef; rw [heo.1, c_29]; rfl)]) rfl ?_
            exact ih (i + 1) (by omega) (by omega)
          · refine g_aload_n C dX4_edgesOf_32 rfl 1 rfl ?_
            refine g_iload C dX4_edgesOf_33 0 rfl ?_
            refine g_V1I C (met_X4_isAgreed G (by omega)) (cwV 1 C.2.2.2.2.1 (lw_V q1245 q1247 qs31 q79 q1248) rfl rfl rfl ok_X4_isAgreed ⟨(Nat.le_of_ble_eq_true rfl), (Nat.le_of_ble_eq_true rfl)⟩) (mh_0 G) rfl (Nat.le_of_ble_eq_true rfl) dX4_edgesOf_35 ⟨(Nat.le_of_ble_eq_true rfl), (Nat.le_of_ble_eq_true rfl)⟩ (fun r_35 h_35 n_35 hp_35 hn_35 => ?_)
            obtain ⟨rfl, rfl, rfl⟩ := hp_35
            refine g_if_eqB (tgt := 45) C dX4_edgesOf_38 (by decide) (fun c_38 => ?_) (fun c_38 => ?_)
            · refine g_iconst C dX4_edgesOf_45 kc_0 ?_
              refine g_iaddN C dX4_edgesOf_46 ?_
              refine g_istore_n (lv' := [(3, _), (5, _), (0, _), (1, _), (2, _), (4, _)]) C dX4_edgesOf_47 rfl (by decide) rfl ?_
              refine g_iinc (lv' := [(4, _), (3, _), (5, _), (0, _), (1, _), (2, _)]) (t := 5) C dX4_edgesOf_48 rfl (nI_1 _) (by decide) rfl ?_
              refine g_goto (tgt := 5) C dX4_edgesOf_51 (by decide) ?_
              refine g_pick (lv' := [(0, _), (1, _), (2, _), (3, _), (4, _)]) [3, 4, 5, 1, 0] rfl ?_
              refine g_eq (lv' := [(0, .ref (g 0)), (1, .int (nI k)), (2, .int (bI ag)), (3, .int (nI (cnt (m_ef s c r k ag) (i + 1)))), (4, .int (nI (i + 1)))]) rfl (by rw [cnt_n (by unfold m_ef; rw [heo.1, c_29, c_38]; rfl)]) rfl ?_
              exact ih (i + 1) (by omega) (by omega)
            · refine g_iconst C dX4_edgesOf_41 kc_1 ?_
              refine g_goto (tgt := 46) C dX4_edgesOf_42 (by decide) ?_
              refine g_iaddN C dX4_edgesOf_46 ?_
              refine g_istore_n (lv' := [(3, _), (5, _), (0, _), (1, _), (2, _), (4, _)]) C dX4_edgesOf_47 rfl (by decide) rfl ?_
              refine g_iinc (lv' := [(4, _), (3, _), (5, _), (0, _), (1, _), (2, _)]) (t := 5) C dX4_edgesOf_48 rfl (nI_1 _) (by decide) rfl ?_
              refine g_goto (tgt := 5) C dX4_edgesOf_51 (by decide) ?_
              refine g_pick (lv' := [(0, _), (1, _), (2, _), (3, _), (4, _)]) [3, 4, 5, 1, 0] rfl ?_
              refine g_eq (lv' := [(0, .ref (g 0)), (1, .int (nI k)), (2, .int (bI ag)), (3, .int (nI (cnt (m_ef s c r k ag) (i + 1)))), (4, .int (nI (i + 1)))]) rfl (by rw [cnt_s (by unfold m_ef; rw [heo.1, c_29, c_38]; rfl)]) rfl ?_
              exact ih (i + 1) (by omega) (by omega)
  refine g_pick (lv' := [(0, _), (1, _), (2, _), (3, _), (4, _)]) [2, 3, 4, 1, 0] rfl ?_
  exact loop (4 + 1 - 0) 0 (by omega) (by omega)
theorem ok_X4_signsOf : yX4_signsOf.cls = "MapSheetsModel" ∧ yX4_signsOf.cls ≠ "java/lang/invoke/MethodHandle" ∧ yX4_signsOf.cls ≠ "java/lang/invoke/VarHandle" ∧ (parseMethodDescriptor yX4_signsOf.desc).map (fun d => d.parameters.length) = some 1 := by decide +kernel
set_option maxHeartbeats 4000000 in
set_option maxRecDepth 100000 in
theorem met_X4_signsOf {l : Launch} {D : va_G} {b0 n : Nat} {h0 : GH} {g : Nat → Nat} {s w a t b : Nat → Int32} {st ty : Int32} {k : Nat} (G : gM b0 g) (hk : k < 36) : gMet l yX4_signsOf cX4_signsOf 4 ((some .int)) 1 22 0 0 D b0 (mh h0 D g s w a t b st ty) n [.ref (g 0), .int (nI k)] (pI (fun r' h' n' => nI (m_sgn s k) = r' ∧ (mh h0 D g s w a t b st ty) = h' ∧ n = n')) := by
  refine gMet.of (lv := [(0, _), (1, _)]) (by decide) (Nat.le_of_ble_eq_true rfl) rfl ?_
  intro p_ e_ U0 m_ args_ below_ meth_ co_ C hr hlk hnm
  refine g_iconst C dX4_signsOf_0 kc_0 ?_
  refine g_istore_n (lv' := [(2, _), (0, _), (1, _)]) C dX4_signsOf_1 rfl (by decide) rfl ?_
  refine g_iconst C dX4_signsOf_2 kc_0 ?_
  refine g_istore_n (lv' := [(3, _), (2, _), (0, _), (1, _)]) C dX4_signsOf_3 rfl (by decide) rfl ?_
  have loop : ∀ (N_ i : Nat), i ≤ 40 → 40 < i + N_ → gW p_ l e_ (headSpec (ws_ yX4_signsOf cX4_signsOf 4 ((some .int))) (gRm 1 22 0 0)).room U0 m_ args_ below_ meth_ co_ (MQ below_ (gQc D b0 (pI (fun r' h' n' => nI (m_sgn s k) = r' ∧ (mh h0 D g s w a t b st ty) = h' ∧ n = n'))) args_ U0 0 0 (gA b0)) D b0 4 (mh h0 D g s w a t b st ty) n 0 0 4 [(0, .ref (g 0)), (1, .int (nI k)), (2, .int (nI (cnt (fun j => decide (s (ix k j) ≠ nI 10)) i))), (3, .int (nI i))] [] := by
    intro N_
    induction N_ with
    | zero => intro i h1_ h2_; exact absurd h2_ (by omega)
    | succ N_ ih =>
      intro i h1_ h2_
      refine g_iload_n C dX4_signsOf_4 rfl 3 rfl ?_
      refine g_bipush C dX4_signsOf_5 kb_40 ?_
      refine g_icmp_geN (tgt := 35) C dX4_signsOf_7 (by decide) (by omega) (by omega) (fun c_7 => ?_) (fun c_7 => ?_)
      · refine g_iload_n C dX4_signsOf_35 rfl 2 rfl ?_
        exact g_iret C hr hlk dX4_signsOf_36 (Nat.le_of_ble_eq_true rfl) (Nat.le_of_ble_eq_true rfl) rfl ⟨_, rfl, ⟨by rw [show i = 40 by omega]; rfl, rfl, rfl⟩⟩
      · refine g_iload_n C dX4_signsOf_10 rfl 2 rfl ?_
        refine g_aload_n C dX4_signsOf_11 rfl 0 rfl ?_
        refine g_iload_n C dX4_signsOf_12 rfl 1 rfl ?_
        refine g_iload_n C dX4_signsOf_13 rfl 3 rfl ?_
        refine g_V2I C (met_X4_of G (by omega) (by omega)) (cwV 2 C.2.2.2.2.1 (lw_V q1229 q1231 qs27 q79 q1232) rfl rfl rfl ok_X4_of ⟨(Nat.le_of_ble_eq_true rfl), (Nat.le_of_ble_eq_true rfl)⟩) (mh_0 G) rfl (Nat.le_of_ble_eq_true rfl) dX4_signsOf_14 ⟨(Nat.le_of_ble_eq_true rfl), (Nat.le_of_ble_eq_true rfl)⟩ (fun r_14 h_14 n_14 hp_14 hn_14 => ?_)
        obtain ⟨rfl, rfl, rfl⟩ := hp_14
        refine g_bipush C dX4_signsOf_17 kb_10 ?_
        refine g_icmp_ne (tgt := 26) C dX4_signsOf_19 (by decide) (fun c_19 => ?_) (fun c_19 => ?_)
        · refine g_iconst C dX4_signsOf_26 kc_1 ?_
          refine g_iaddN C dX4_signsOf_27 ?_
          refine g_istore_n (lv' := [(2, _), (0, _), (1, _), (3, _)]) C dX4_signsOf_28 rfl (by decide) rfl ?_
          refine g_iinc (lv' := [(3, _), (2, _), (0, _), (1, _)]) (t := 3) C dX4_signsOf_29 rfl (nI_1 _) (by decide) rfl ?_
          refine g_goto (tgt := 4) C dX4_signsOf_32 (by decide) ?_
          refine g_pick (lv' := [(0, _), (1, _), (2, _), (3, _)]) [2, 3, 1, 0] rfl ?_
          refine g_eq (lv' := [(0, .ref (g 0)), (1, .int (nI k)), (2, .int (nI (cnt (fun j => decide (s (ix k j) ≠ nI 10)) (i + 1)))), (3, .int (nI (i + 1)))]) rfl (by rw [cnt_s (decide_eq_true c_19)]) rfl ?_
          exact ih (i + 1) (by omega) (by omega)
        · refine g_iconst C dX4_signsOf_22 kc_0 ?_
          refine g_goto (tgt := 27) C dX4_signsOf_23 (by decide) ?_
          refine g_iaddN C dX4_signsOf_27 ?_
          refine g_istore_n (lv' := [(2, _), (0, _), (1, _), (3, _)]) C dX4_signsOf_28 rfl (by decide) rfl ?_
          refine g_iinc (lv' := [(3, _), (2, _), (0, _), (1, _)]) (t := 3) C dX4_signsOf_29 rfl (nI_1 _) (by decide) rfl ?_
          refine g_goto (tgt := 4) C dX4_signsOf_32 (by decide) ?_
          refine g_pick (lv' := [(0, _), (1, _), (2, _), (3, _)]) [2, 3, 1, 0] rfl ?_
          refine g_eq (lv' := [(0, .ref (g 0)), (1, .int (nI k)), (2, .int (nI (cnt (fun j => decide (s (ix k j) ≠ nI 10)) (i + 1)))), (3, .int (nI (i + 1)))]) rfl (by rw [cnt_n (decide_eq_false (fun z => z c_19))]) rfl ?_
          exact ih (i + 1) (by omega) (by omega)
  refine g_pick (lv' := [(0, _), (1, _), (2, _), (3, _)]) [2, 3, 1, 0] rfl ?_
  exact loop (40 + 1 - 0) 0 (by omega) (by omega)
theorem ok_X4_isUpToDate : yX4_isUpToDate.cls = "MapSheetsModel" ∧ yX4_isUpToDate.cls ≠ "java/lang/invoke/MethodHandle" ∧ yX4_isUpToDate.cls ≠ "java/lang/invoke/VarHandle" ∧ (parseMethodDescriptor yX4_isUpToDate.desc).map (fun d => d.parameters.length) = some 1 := by decide +kernel
set_option maxHeartbeats 4000000 in
set_option maxRecDepth 100000 in
theorem met_X4_isUpToDate {l : Launch} {D : va_G} {b0 n : Nat} {h0 : GH} {g : Nat → Nat} {s w a t b : Nat → Int32} {st ty : Int32} {k : Nat} (G : gM b0 g) (hk : k < 36) : gMet l yX4_isUpToDate cX4_isUpToDate 2 ((some .boolean)) 1 22 0 0 D b0 (mh h0 D g s w a t b st ty) n [.ref (g 0), .int (nI k)] (pI (fun r' h' n' => bI (m_upd s k) = r' ∧ (mh h0 D g s w a t b st ty) = h' ∧ n = n')) := by
  refine gMet.of (lv := [(0, _), (1, _)]) (by decide) (Nat.le_of_ble_eq_true rfl) rfl ?_
  intro p_ e_ U0 m_ args_ below_ meth_ co_ C hr hlk hnm
  refine g_aload_n C dX4_isUpToDate_0 rfl 0 rfl ?_
  refine g_iload_n C dX4_isUpToDate_1 rfl 1 rfl ?_
  refine g_bipush C dX4_isUpToDate_2 kb_51 ?_
  refine g_V2I C (met_X4_of G (by omega) (by omega)) (cwV 2 C.2.2.2.2.1 (lw_V q1229 q1231 qs27 q79 q1232) rfl rfl rfl ok_X4_of ⟨(Nat.le_of_ble_eq_true rfl), (Nat.le_of_ble_eq_true rfl)⟩) (mh_0 G) rfl (Nat.le_of_ble_eq_true rfl) dX4_isUpToDate_4 ⟨(Nat.le_of_ble_eq_true rfl), (Nat.le_of_ble_eq_true rfl)⟩ (fun r_4 h_4 n_4 hp_4 hn_4 => ?_)
  obtain ⟨rfl, rfl, rfl⟩ := hp_4
  refine g_aload_n C dX4_isUpToDate_7 rfl 0 rfl ?_
  refine g_iload_n C dX4_isUpToDate_8 rfl 1 rfl ?_
  refine g_bipush C dX4_isUpToDate_9 kb_50 ?_
  refine g_V2I C (met_X4_of G (by omega) (by omega)) (cwV 2 C.2.2.2.2.1 (lw_V q1229 q1231 qs27 q79 q1232) rfl rfl rfl ok_X4_of ⟨(Nat.le_of_ble_eq_true rfl), (Nat.le_of_ble_eq_true rfl)⟩) (mh_0 G) rfl (Nat.le_of_ble_eq_true rfl) dX4_isUpToDate_11 ⟨(Nat.le_of_ble_eq_true rfl), (Nat.le_of_ble_eq_true rfl)⟩ (fun r_11 h_11 n_11 hp_11 hn_11 => ?_)
  obtain ⟨rfl, rfl, rfl⟩ := hp_11
  refine g_icmp_ne (tgt := 21) C dX4_isUpToDate_14 (by decide) (fun c_14 => ?_) (fun c_14 => ?_)
  · refine g_iconst C dX4_isUpToDate_21 kc_0 ?_
    exact g_iret C hr hlk dX4_isUpToDate_22 (Nat.le_of_ble_eq_true rfl) (Nat.le_of_ble_eq_true rfl) rfl ⟨_, rfl, ⟨(bI_f (decide_eq_false c_14)).symm, rfl, rfl⟩⟩
  · refine g_iconst C dX4_isUpToDate_17 kc_1 ?_
    refine g_goto (tgt := 22) C dX4_isUpToDate_18 (by decide) ?_
    exact g_iret C hr hlk dX4_isUpToDate_22 (Nat.le_of_ble_eq_true rfl) (Nat.le_of_ble_eq_true rfl) rfl ⟨_, rfl, ⟨(bI_t (decide_eq_true c_14)).symm, rfl, rfl⟩⟩
theorem ok_X4_published : yX4_published.cls = "MapSheetsModel" ∧ yX4_published.cls ≠ "java/lang/invoke/MethodHandle" ∧ yX4_published.cls ≠ "java/lang/invoke/VarHandle" ∧ (parseMethodDescriptor yX4_published.desc).map (fun d => d.parameters.length) = some 1 := by decide +kernel
set_option maxHeartbeats 4000000 in
set_option maxRecDepth 100000 in
theorem met_X4_published {l : Launch} {D : va_G} {b0 n : Nat} {h0 : GH} {g : Nat → Nat} {s w a t b : Nat → Int32} {st ty : Int32} {c : Nat} {r : Nat} {ag : Bool} (G : gM b0 g) (I : MI s c r) : gMet l yX4_published cX4_published 4 ((some .int)) 2 43 0 0 D b0 (mh h0 D g s w a t b st ty) n [.ref (g 0), .int (bI ag)] (pI (fun r' h' n' => nI (m_pub s c r ag) = r' ∧ (mh h0 D g s w a t b st ty) = h' ∧ n = n')) := by
  refine gMet.of (lv := [(0, _), (1, _)]) (by decide) (Nat.le_of_ble_eq_true rfl) rfl ?_
  intro p_ e_ U0 m_ args_ below_ meth_ co_ C hr hlk hnm
  have hI := m_ed_le I
  obtain ⟨I0, I1, I2, I3, I4, I5⟩ := id I
  refine g_iconst C dX4_published_0 kc_0 ?_
  refine g_istore_n (lv' := [(2, _), (0, _), (1, _)]) C dX4_published_1 rfl (by decide) rfl ?_
  refine g_iconst C dX4_published_2 kc_0 ?_
  refine g_istore_n (lv' := [(3, _), (2, _), (0, _), (1, _)]) C dX4_published_3 rfl (by decide) rfl ?_
  have loop : ∀ (N_ i : Nat), i ≤ c * r → c * r < i + N_ → gW p_ l e_ (headSpec (ws_ yX4_published cX4_published 4 ((some .int))) (gRm 2 43 0 0)).room U0 m_ args_ below_ meth_ co_ (MQ below_ (gQc D b0 (pI (fun r' h' n' => nI (m_pub s c r ag) = r' ∧ (mh h0 D g s w a t b st ty) = h' ∧ n = n'))) args_ U0 0 0 (gA b0)) D b0 4 (mh h0 D g s w a t b st ty) n 0 0 4 [(0, .ref (g 0)), (1, .int (bI ag)), (2, .int (nI (cnt (m_pf s ag) i))), (3, .int (nI i))] [] := by
    intro N_
    induction N_ with
    | zero => intro i h1_ h2_; exact absurd h2_ (by omega)
    | succ N_ ih =>
      intro i h1_ h2_
      refine g_iload_n C dX4_published_4 rfl 3 rfl ?_
      refine g_aload_n C dX4_published_5 rfl 0 rfl ?_
      refine g_V0I C (met_X4_sheets G I) (cwV 0 C.2.2.2.2.1 (lw_V q1221 q1223 qs25 q79 q1224) rfl rfl rfl ok_X4_sheets ⟨(Nat.le_of_ble_eq_true rfl), (Nat.le_of_ble_eq_true rfl)⟩) (mh_0 G) rfl (Nat.le_of_ble_eq_true rfl) dX4_published_6 ⟨(Nat.le_of_ble_eq_true rfl), (Nat.le_of_ble_eq_true rfl)⟩ (fun r_6 h_6 n_6 hp_6 hn_6 => ?_)
      obtain ⟨rfl, rfl, rfl⟩ := hp_6
      refine g_icmp_geN (tgt := 50) C dX4_published_9 (by decide) (by omega) (by omega) (fun c_9 => ?_) (fun c_9 => ?_)
      · refine g_iload_n C dX4_published_50 rfl 2 rfl ?_
        exact g_iret C hr hlk dX4_published_51 (Nat.le_of_ble_eq_true rfl) (Nat.le_of_ble_eq_true rfl) rfl ⟨_, rfl, ⟨by rw [show i = c * r by omega]; rfl, rfl, rfl⟩⟩
      · refine g_iload_n C dX4_published_12 rfl 2 rfl ?_
        refine g_aload_n C dX4_published_13 rfl 0 rfl ?_
        refine g_iload_n C dX4_published_14 rfl 3 rfl ?_
        refine g_bipush C dX4_published_15 kb_51 ?_
        refine g_V2I C (met_X4_of G (by omega) (by omega)) (cwV 2 C.2.2.2.2.1 (lw_V q1229 q1231 qs27 q79 q1232) rfl rfl rfl ok_X4_of ⟨(Nat.le_of_ble_eq_true rfl), (Nat.le_of_ble_eq_true rfl)⟩) (mh_0 G) rfl (Nat.le_of_ble_eq_true rfl) dX4_published_17 ⟨(Nat.le_of_ble_eq_true rfl), (Nat.le_of_ble_eq_true rfl)⟩ (fun r_17 h_17 n_17 hp_17 hn_17 => ?_)
        obtain ⟨rfl, rfl, rfl⟩ := hp_17
        refine g_bipush C dX4_published_20 kb_m4 ?_
        refine g_icmp_eq (tgt := 41) C dX4_published_22 (by decide) (fun c_22 => ?_) (fun c_22 => ?_)
        · refine g_iconst C dX4_published_41 kc_0 ?_
          refine g_iaddN C dX4_published_42 ?_
          refine g_istore_n (lv' := [(2, _), (0, _), (1, _), (3, _)]) C dX4_published_43 rfl (by decide) rfl ?_
          refine g_iinc (lv' := [(3, _), (2, _), (0, _), (1, _)]) (t := 3) C dX4_published_44 rfl (nI_1 _) (by decide) rfl ?_
          refine g_goto (tgt := 4) C dX4_published_47 (by decide) ?_
          refine g_pick (lv' := [(0, _), (1, _), (2, _), (3, _)]) [2, 3, 1, 0] rfl ?_
          refine g_eq (lv' := [(0, .ref (g 0)), (1, .int (bI ag)), (2, .int (nI (cnt (m_pf s ag) (i + 1)))), (3, .int (nI (i + 1)))]) rfl (by rw [cnt_n (by unfold m_pf; rw [decide_eq_false (fun z => z c_22)]; rfl)]) rfl ?_
          exact ih (i + 1) (by omega) (by omega)
        · refine g_iload_n C dX4_published_25 rfl 1 rfl ?_
          refine g_if_eqB (tgt := 37) C dX4_published_26 (by decide) (fun c_26 => ?_) (fun c_26 => ?_)
          · refine g_iconst C dX4_published_37 kc_1 ?_
            refine g_goto (tgt := 42) C dX4_published_38 (by decide) ?_
            refine g_iaddN C dX4_published_42 ?_
            refine g_istore_n (lv' := [(2, _), (0, _), (1, _), (3, _)]) C dX4_published_43 rfl (by decide) rfl ?_
            refine g_iinc (lv' := [(3, _), (2, _), (0, _), (1, _)]) (t := 3) C dX4_published_44 rfl (nI_1 _) (by decide) rfl ?_
            refine g_goto (tgt := 4) C dX4_published_47 (by decide) ?_
            refine g_pick (lv' := [(0, _), (1, _), (2, _), (3, _)]) [2, 3, 1, 0] rfl ?_
            refine g_eq (lv' := [(0, .ref (g 0)), (1, .int (bI ag)), (2, .int (nI (cnt (m_pf s ag) (i + 1)))), (3, .int (nI (i + 1)))]) rfl (by rw [cnt_s (by unfold m_pf; rw [decide_eq_true c_22, c_26]; rfl)]) rfl ?_
            exact ih (i + 1) (by omega) (by omega)
          · refine g_aload_n C dX4_published_29 rfl 0 rfl ?_
            refine g_iload_n C dX4_published_30 rfl 3 rfl ?_
            refine g_V1I C (met_X4_isUpToDate G (by omega)) (cwV 1 C.2.2.2.2.1 (lw_V q1317 q1319 qs44 q79 q1320) rfl rfl rfl ok_X4_isUpToDate ⟨(Nat.le_of_ble_eq_true rfl), (Nat.le_of_ble_eq_true rfl)⟩) (mh_0 G) rfl (Nat.le_of_ble_eq_true rfl) dX4_published_31 ⟨(Nat.le_of_ble_eq_true rfl), (Nat.le_of_ble_eq_true rfl)⟩ (fun r_31 h_31 n_31 hp_31 hn_31 => ?_)
            obtain ⟨rfl, rfl, rfl⟩ := hp_31
            refine g_if_eqB (tgt := 41) C dX4_published_34 (by decide) (fun c_34 => ?_) (fun c_34 => ?_)
            · refine g_iconst C dX4_published_41 kc_0 ?_
              refine g_iaddN C dX4_published_42 ?_
              refine g_istore_n (lv' := [(2, _), (0, _), (1, _), (3, _)]) C dX4_published_43 rfl (by decide) rfl ?_
              refine g_iinc (lv' := [(3, _), (2, _), (0, _), (1, _)]) (t := 3) C dX4_published_44 rfl (nI_1 _) (by decide) rfl ?_
              refine g_goto (tgt := 4) C dX4_published_47 (by decide) ?_
              refine g_pick (lv' := [(0, _), (1, _), (2, _), (3, _)]) [2, 3, 1, 0] rfl ?_
              refine g_eq (lv' := [(0, .ref (g 0)), (1, .int (bI ag)), (2, .int (nI (cnt (m_pf s ag) (i + 1)))), (3, .int (nI (i + 1)))]) rfl (by rw [cnt_n (by unfold m_pf; rw [decide_eq_true c_22, c_26, c_34]; rfl)]) rfl ?_
              exact ih (i + 1) (by omega) (by omega)
            · refine g_iconst C dX4_published_37 kc_1 ?_
              refine g_goto (tgt := 42) C dX4_published_38 (by decide) ?_
              refine g_iaddN C dX4_published_42 ?_
              refine g_istore_n (lv' := [(2, _), (0, _), (1, _), (3, _)]) C dX4_published_43 rfl (by decide) rfl ?_
              refine g_iinc (lv' := [(3, _), (2, _), (0, _), (1, _)]) (t := 3) C dX4_published_44 rfl (nI_1 _) (by decide) rfl ?_
              refine g_goto (tgt := 4) C dX4_published_47 (by decide) ?_
              refine g_pick (lv' := [(0, _), (1, _), (2, _), (3, _)]) [2, 3, 1, 0] rfl ?_
              refine g_eq (lv' := [(0, .ref (g 0)), (1, .int (bI ag)), (2, .int (nI (cnt (m_pf s ag) (i + 1)))), (3, .int (nI (i + 1)))]) rfl (by rw [cnt_s (by unfold m_pf; rw [decide_eq_true c_22, c_26, c_34]; rfl)]) rfl ?_
              exact ih (i + 1) (by omega) (by omega)
  refine g_pick (lv' := [(0, _), (1, _), (2, _), (3, _)]) [2, 3, 1, 0] rfl ?_
  exact loop (c * r + 1 - 0) 0 (by omega) (by omega)
theorem ok_X4_undo : yX4_undo.cls = "MapSheetsModel" ∧ yX4_undo.cls ≠ "java/lang/invoke/MethodHandle" ∧ yX4_undo.cls ≠ "java/lang/invoke/VarHandle" ∧ (parseMethodDescriptor yX4_undo.desc).map (fun d => d.parameters.length) = some 0 := by decide +kernel
set_option maxHeartbeats 4000000 in
set_option maxRecDepth 100000 in
theorem met_X4_undo {l : Launch} {D : va_G} {b0 n : Nat} {h0 : GH} {g : Nat → Nat} {s w a t b : Nat → Int32} {ty : Int32} {q : Nat}  (G : gM b0 g) (hq : q ≤ 4) : gMet l yX4_undo cX4_undo 2 ((some .int)) 0 0 0 0 D b0 (mh h0 D g s w a t b (nI q) ty) n [.ref (g 0)] (pI (fun r' h' n' => ((q = 0 ∧ (-2 : Int32) = r' ∧ mh h0 D g s w a t b (nI q) ty = h') ∨ (0 < q ∧ nI (q - 1) = r' ∧ mh h0 D g (fill (fun x => w (1972 * (q - 1) + x)) s 0 1972) w a t b (nI (q - 1)) ty = h')) ∧ n = n')) := by
  refine gMet.of (lv := [(0, _)]) (by decide) (Nat.le_of_ble_eq_true rfl) rfl ?_
  intro p_ e_ U0 m_ args_ below_ meth_ co_ C hr hlk hnm
  refine g_aload_n C dX4_undo_0 rfl 0 rfl ?_
  refine g_get C in_X4 (mh_0 G) rfl 3 (by decide) q1163 (fun _ hx => hx) rfl dX4_undo_1 ?_
  refine g_if_neN (tgt := 10) C dX4_undo_4 (by decide) (by omega) (fun c_4 => ?_) (fun c_4 => ?_)
  · refine g_aload_n C dX4_undo_10 rfl 0 rfl ?_
    refine g_dup C dX4_undo_11 rfl ?_
    refine g_get C in_X4 (mh_0 G) rfl 3 (by decide) q1163 (fun _ hx => hx) rfl dX4_undo_12 ?_
    refine g_iconst C dX4_undo_15 kc_1 ?_
    refine g_isubN C dX4_undo_16 (by omega) ?_
    refine g_put C in_X4 tyX4 tyX4_ok nmX4 (mh_0 G) G.ge0 rfl 3 (by decide) q1163 (fun _ hx => hx) rfl rfl rfl rfl (Nat.le_of_ble_eq_true rfl) (mh_u0 G) dX4_undo_17 ?_
    refine g_iconst C dX4_undo_20 kc_0 ?_
    refine g_istore_n (lv' := [(1, _), (0, _)]) C dX4_undo_21 rfl (by decide) rfl ?_
    have loop : ∀ (N_ i : Nat), i ≤ 1972 → 1972 < i + N_ → gW p_ l e_ (headSpec (ws_ yX4_undo cX4_undo 2 ((some .int))) (gRm 0 0 0 0)).room U0 m_ args_ below_ meth_ co_ (MQ below_ (gQc D b0 (pI (fun r' h' n' => ((q = 0 ∧ (-2 : Int32) = r' ∧ mh h0 D g s w a t b (nI q) ty = h') ∨ (0 < q ∧ nI (q - 1) = r' ∧ mh h0 D g (fill (fun x => w (1972 * (q - 1) + x)) s 0 1972) w a t b (nI (q - 1)) ty = h')) ∧ n = n'))) args_ U0 0 0 (gA b0)) D b0 2 (mh h0 D g (fill (fun x => w (1972 * (q - 1) + x)) s 0 i) w a t b (nI (q - 1)) ty) n 0 0 22 [(0, .ref (g 0)), (1, .int (nI i))] [] := by
      intro N_
      induction N_ with
      | zero => intro i h1_ h2_; exact absurd h2_ (by omega)
      | succ N_ ih =>
        intro i h1_ h2_
        refine g_iload_n C dX4_undo_22 rfl 1 rfl ?_
        refine g_sipush C dX4_undo_23 ks_1972 ?_
        refine g_icmp_geN (tgt := 56) C dX4_undo_26 (by decide) (by omega) (by omega) (fun c_26 => ?_) (fun c_26 => ?_)
        · refine g_aload_n C dX4_undo_56 rfl 0 rfl ?_
          refine g_get C in_X4 (mh_0 G) rfl 3 (by decide) q1163 (fun _ hx => hx) rfl dX4_undo_57 ?_
          exact g_iret C hr hlk dX4_undo_60 (Nat.le_of_ble_eq_true rfl) (Nat.le_of_ble_eq_true rfl) rfl ⟨_, rfl, ⟨Or.inr ⟨by omega, rfl, by rw [show i = 1972 by omega]⟩, rfl⟩⟩
        · refine g_aload_n C dX4_undo_29 rfl 0 rfl ?_
          refine g_get C in_X4 (mh_0 G) rfl 0 (by decide) q1160 (fun _ hx => hx) rfl dX4_undo_30 ?_
          refine g_iload_n C dX4_undo_33 rfl 1 rfl ?_
          refine g_aload_n C dX4_undo_34 rfl 0 rfl ?_
          refine g_get C in_X4 (mh_0 G) rfl 1 (by decide) q1161 (fun _ hx => hx) rfl dX4_undo_35 ?_
          refine g_sipush C dX4_undo_38 ks_1972 ?_
          refine g_aload_n C dX4_undo_41 rfl 0 rfl ?_
          refine g_get C in_X4 (mh_0 G) rfl 3 (by decide) q1163 (fun _ hx => hx) rfl dX4_undo_42 ?_
          refine g_imulN C dX4_undo_45 ?_
          refine g_iload_n C dX4_undo_46 rfl 1 rfl ?_
          refine g_iaddN C dX4_undo_47 ?_
          refine g_ialdN C (mh_2 G) (by omega) (by omega) dX4_undo_48 ?_
          refine g_iastN C (mh_1 G) G.ge1 (by omega) (by omega) (mh_u1 G) dX4_undo_49 ?_
          refine g_iinc (lv' := [(1, _), (0, _)]) (t := 1) C dX4_undo_50 rfl (nI_1 _) (by decide) rfl ?_
          refine g_goto (tgt := 22) C dX4_undo_53 (by decide) ?_
          refine g_pick (lv' := [(0, _), (1, _)]) [1, 0] rfl ?_
          refine g_heap (h' := (mh h0 D g (fill (fun x => w (1972 * (q - 1) + x)) s 0 (i + 1)) w a t b (nI (q - 1)) ty)) (by rw [fill_s (by omega) rfl]) ?_
          exact ih (i + 1) (by omega) (by omega)
    refine g_pick (lv' := [(0, _), (1, _)]) [1, 0] rfl ?_
    refine g_heap (h' := (mh h0 D g (fill (fun x => w (1972 * (q - 1) + x)) s 0 0) w a t b (nI (q - 1)) ty)) (by rw [fill_0]) ?_
    exact loop (1972 + 1 - 0) 0 (by omega) (by omega)
  · refine g_bipush C dX4_undo_7 kb_m2 ?_
    exact g_iret C hr hlk dX4_undo_9 (Nat.le_of_ble_eq_true rfl) (Nat.le_of_ble_eq_true rfl) rfl ⟨_, rfl, ⟨Or.inl ⟨c_4, rfl, rfl⟩, rfl⟩⟩
theorem ok_X4_edgeAt : yX4_edgeAt.cls = "MapSheetsModel" ∧ yX4_edgeAt.cls ≠ "java/lang/invoke/MethodHandle" ∧ yX4_edgeAt.cls ≠ "java/lang/invoke/VarHandle" ∧ (parseMethodDescriptor yX4_edgeAt.desc).map (fun d => d.parameters.length) = some 2 := by decide +kernel
set_option maxHeartbeats 4000000 in
set_option maxRecDepth 100000 in
theorem met_X4_edgeAt {l : Launch} {D : va_G} {b0 n : Nat} {h0 : GH} {g : Nat → Nat} {s w a t b : Nat → Int32} {ty : Int32} {c : Nat} {r : Nat} {q : Nat} {x : Int32} {y : Int32} (G : gM b0 g) (I : MI s c r) (V : MV s) (hq : q ≤ 4) : gMet l yX4_edgeAt cX4_edgeAt 3 ((some .int)) 2 45 0 0 D b0 (mh h0 D g s w a t b (nI q) ty) n [.ref (g 0), .int x, .int y] (pI (fun r' h' n' => ∃ a' b', rd_edgeAt c r x y = r' ∧ mh h0 D g s w a' t b' (nI q) ty = h' ∧ n = n')) := by
  refine gMet.of (lv := [(0, _), (1, _), (2, _)]) (by decide) (Nat.le_of_ble_eq_true rfl) rfl ?_
  intro p_ e_ U0 m_ args_ below_ meth_ co_ C hr hlk hnm
  have hI := m_ed_le I
  obtain ⟨I0, I1, I2, I3, I4, I5⟩ := id I
  refine g_aload_n C dX4_edgeAt_0 rfl 0 rfl ?_
  refine g_iload_n C dX4_edgeAt_1 rfl 1 rfl ?_
  refine g_V1I C (met_X4_isSheet G I) (cwV 1 C.2.2.2.2.1 (lw_V q1217 q1219 qs24 q79 q1220) rfl rfl rfl ok_X4_isSheet ⟨(Nat.le_of_ble_eq_true rfl), (Nat.le_of_ble_eq_true rfl)⟩) (mh_0 G) rfl (Nat.le_of_ble_eq_true rfl) dX4_edgeAt_2 ⟨(Nat.le_of_ble_eq_true rfl), (Nat.le_of_ble_eq_true rfl)⟩ (fun r_2 h_2 n_2 hp_2 hn_2 => ?_)
  obtain ⟨rfl, rfl, rfl⟩ := hp_2
  refine g_if_eqB (tgt := 26) C dX4_edgeAt_5 (by decide) (fun c_5 => ?_) (fun c_5 => ?_)
  · refine g_iconst C dX4_edgeAt_26 kc_m1 ?_
    exact g_iret C hr hlk dX4_edgeAt_27 (Nat.le_of_ble_eq_true rfl) (Nat.le_of_ble_eq_true rfl) rfl ⟨_, rfl, ⟨_, _, by unfold rd_edgeAt; rw [c_5]; rfl, rfl, rfl⟩⟩
  · refine g_iload_n C dX4_edgeAt_8 rfl 2 rfl ?_
    refine g_iconst C dX4_edgeAt_9 kc_0 ?_
    refine g_iconst C dX4_edgeAt_10 kc_3 ?_
    refine g_S3I C (met_X4_in) (va_cwS 3 C.2.2.2.2.1 (lw_S q1186 q1187 q79 q1188) rfl rfl rfl ok_X4_in ⟨(Nat.le_of_ble_eq_true rfl), (Nat.le_of_ble_eq_true rfl)⟩) (Nat.le_of_ble_eq_true rfl) dX4_edgeAt_11 ⟨(Nat.le_of_ble_eq_true rfl), (Nat.le_of_ble_eq_true rfl)⟩ (fun r_11 h_11 n_11 hp_11 hn_11 => ?_)
    obtain ⟨rfl, rfl, rfl⟩ := hp_11
    refine g_if_eqB (tgt := 26) C dX4_edgeAt_14 (by decide) (fun c_14 => ?_) (fun c_14 => ?_)
    · rw [in0_eq (by omega)] at c_14
      refine g_iconst C dX4_edgeAt_26 kc_m1 ?_
      exact g_iret C hr hlk dX4_edgeAt_27 (Nat.le_of_ble_eq_true rfl) (Nat.le_of_ble_eq_true rfl) rfl ⟨_, rfl, ⟨_, _, by unfold rd_edgeAt; rw [c_5, c_14]; rfl, rfl, rfl⟩⟩
    · rw [in0_eq (by omega)] at c_14
      obtain ⟨k, hk, rfl⟩ := isIn_ex c_5
      obtain ⟨d, hd, rfl⟩ := isIn_ex c_14
      refine g_aload_n C dX4_edgeAt_17 rfl 0 rfl ?_
      refine g_iload_n C dX4_edgeAt_18 rfl 1 rfl ?_
      refine g_iload_n C dX4_edgeAt_19 rfl 2 rfl ?_
      refine g_V2I C (met_X4_edgeOf G I (by omega) (by omega)) (cwV 2 C.2.2.2.2.1 (lw_V q1313 q1315 qs43 q79 q1316) rfl rfl rfl ok_X4_edgeOf ⟨(Nat.le_of_ble_eq_true rfl), (Nat.le_of_ble_eq_true rfl)⟩) (mh_0 G) rfl (Nat.le_of_ble_eq_true rfl) dX4_edgeAt_20 ⟨(Nat.le_of_ble_eq_true rfl), (Nat.le_of_ble_eq_true rfl)⟩ (fun r_20 h_20 n_20 hp_20 hn_20 => ?_)
      obtain ⟨rfl, rfl, rfl⟩ := hp_20
      refine g_goto (tgt := 27) C dX4_edgeAt_23 (by decide) ?_
      exact g_iret C hr hlk dX4_edgeAt_27 (Nat.le_of_ble_eq_true rfl) (Nat.le_of_ble_eq_true rfl) rfl ⟨_, rfl, ⟨_, _, by unfold rd_edgeAt; rw [c_5, c_14, tn_nI (k := k) (by omega), tn_nI (k := d) (by omega)]; rfl, rfl, rfl⟩⟩
theorem ok_X4_quarrelAt : yX4_quarrelAt.cls = "MapSheetsModel" ∧ yX4_quarrelAt.cls ≠ "java/lang/invoke/MethodHandle" ∧ yX4_quarrelAt.cls ≠ "java/lang/invoke/VarHandle" ∧ (parseMethodDescriptor yX4_quarrelAt.desc).map (fun d => d.parameters.length) = some 3 := by decide +kernel
set_option maxHeartbeats 4000000 in
set_option maxRecDepth 100000 in
theorem met_X4_quarrelAt {l : Launch} {D : va_G} {b0 n : Nat} {h0 : GH} {g : Nat → Nat} {s w a t b : Nat → Int32} {st ty : Int32} {c : Nat} {r : Nat} {e : Nat} {x : Nat} {z : Nat} (G : gM b0 g) (I : MI s c r) (V : MV s) (he : e < m_ed c r) (hx : x < 10) (hz : z < 4) : gMet l yX4_quarrelAt cX4_quarrelAt 5 ((some .int)) 5 115 0 0 D b0 (mh h0 D g s w a t b st ty) n [.ref (g 0), .int (nI e), .int (nI x), .int (nI z)] (pI (fun r' h' n' => m_qa s c r e x z = r' ∧ (mh h0 D g s w a t b st ty) = h' ∧ n = n')) := by
  refine gMet.of (lv := [(0, _), (1, _), (2, _), (3, _)]) (by decide) (Nat.le_of_ble_eq_true rfl) rfl ?_
  intro p_ e_ U0 m_ args_ below_ meth_ co_ C hr hlk hnm
  have hI := m_ed_le I
  obtain ⟨I0, I1, I2, I3, I4, I5⟩ := id I
  have hfs := m_fs_lt I he
  have hsd := m_sd_lt c r e
  have hop := m_op_lt (m_sd c r e)
  have hm1 : m_fm s c r e x ≤ 10 := m_mean_le V (by omega) (by omega) hx
  have hm2 : m_sm s c r e x ≤ 10 := m_mean_le V (by omega) (by omega) hx
  refine g_iload_n C dX4_quarrelAt_0 rfl 3 rfl ?_
  refine g_if_neN (tgt := 8) C dX4_quarrelAt_1 (by decide) (by omega) (fun c_1 => ?_) (fun c_1 => ?_)
  · refine g_iload_n C dX4_quarrelAt_8 rfl 3 rfl ?_
    refine g_iconst C dX4_quarrelAt_9 kc_1 ?_
    refine g_icmp_neN (tgt := 22) C dX4_quarrelAt_10 (by decide) (by omega) (by omega) (fun c_10 => ?_) (fun c_10 => ?_)
    · refine g_iload_n C dX4_quarrelAt_22 rfl 3 rfl ?_
      refine g_iconst C dX4_quarrelAt_23 kc_2 ?_
      refine g_icmp_neN (tgt := 36) C dX4_quarrelAt_24 (by decide) (by omega) (by omega) (fun c_24 => ?_) (fun c_24 => ?_)
      · refine g_aload_n C dX4_quarrelAt_36 rfl 0 rfl ?_
        refine g_iload_n C dX4_quarrelAt_37 rfl 1 rfl ?_
        refine g_iload_n C dX4_quarrelAt_38 rfl 2 rfl ?_
        refine g_V2I C (met_X4_secondMeans G I V (by first | assumption | omega) (by omega)) (cwV 2 C.2.2.2.2.1 (lw_V q1273 q1275 qs38 q79 q1276) rfl rfl rfl ok_X4_secondMeans ⟨(Nat.le_of_ble_eq_true rfl), (Nat.le_of_ble_eq_true rfl)⟩) (mh_0 G) rfl (Nat.le_of_ble_eq_true rfl) dX4_quarrelAt_39 ⟨(Nat.le_of_ble_eq_true rfl), (Nat.le_of_ble_eq_true rfl)⟩ (fun r_39 h_39 n_39 hp_39 hn_39 => ?_)
        obtain ⟨rfl, rfl, rfl⟩ := hp_39
        refine g_istore (lv' := [(4, _), (0, _), (1, _), (2, _), (3, _)]) C dX4_quarrelAt_42 (by decide) rfl ?_
        refine g_iload_n C dX4_quarrelAt_44 rfl 4 rfl ?_
        refine g_iconst C dX4_quarrelAt_45 kc_1 ?_
        refine g_icmp_leN (tgt := 61) C dX4_quarrelAt_46 (by decide) (by omega) (by omega) (fun c_46 => absurd c_46 (by omega)) (fun c_46 => ?_)
        refine g_iload C dX4_quarrelAt_49 0 rfl ?_
        refine g_bipush C dX4_quarrelAt_51 kb_10 ?_
        refine g_icmp_neN (tgt := 61) C dX4_quarrelAt_53 (by decide) (by omega) (by omega) (fun c_53 => ?_) (fun c_53 => ?_)
        · refine g_iload C dX4_quarrelAt_61 0 rfl ?_
          exact g_iret C hr hlk dX4_quarrelAt_63 (Nat.le_of_ble_eq_true rfl) (Nat.le_of_ble_eq_true rfl) rfl ⟨_, rfl, ⟨by unfold m_qa; rw [if_neg c_1, if_neg c_10, if_neg c_24, if_neg c_53], rfl, rfl⟩⟩
        · refine g_bipush C dX4_quarrelAt_56 kb_m4 ?_
          refine g_goto (tgt := 63) C dX4_quarrelAt_58 (by decide) ?_
          exact g_iret C hr hlk dX4_quarrelAt_63 (Nat.le_of_ble_eq_true rfl) (Nat.le_of_ble_eq_true rfl) rfl ⟨_, rfl, ⟨by unfold m_qa; rw [if_neg c_1, if_neg c_10, if_neg c_24, if_pos c_53], rfl, rfl⟩⟩
      · refine g_aload_n C dX4_quarrelAt_27 rfl 0 rfl ?_
        refine g_iload_n C dX4_quarrelAt_28 rfl 1 rfl ?_
        refine g_iload_n C dX4_quarrelAt_29 rfl 2 rfl ?_
        refine g_V2I C (met_X4_firstMeans G I V (by first | assumption | omega) (by omega)) (cwV 2 C.2.2.2.2.1 (lw_V q1257 q1259 qs34 q79 q1260) rfl rfl rfl ok_X4_firstMeans ⟨(Nat.le_of_ble_eq_true rfl), (Nat.le_of_ble_eq_true rfl)⟩) (mh_0 G) rfl (Nat.le_of_ble_eq_true rfl) dX4_quarrelAt_30 ⟨(Nat.le_of_ble_eq_true rfl), (Nat.le_of_ble_eq_true rfl)⟩ (fun r_30 h_30 n_30 hp_30 hn_30 => ?_)
        obtain ⟨rfl, rfl, rfl⟩ := hp_30
        refine g_goto (tgt := 42) C dX4_quarrelAt_33 (by decide) ?_
        refine g_istore (lv' := [(4, _), (0, _), (1, _), (2, _), (3, _)]) C dX4_quarrelAt_42 (by decide) rfl ?_
        refine g_iload_n C dX4_quarrelAt_44 rfl 4 rfl ?_
        refine g_iconst C dX4_quarrelAt_45 kc_1 ?_
        refine g_icmp_leN (tgt := 61) C dX4_quarrelAt_46 (by decide) (by omega) (by omega) (fun c_46 => absurd c_46 (by omega)) (fun c_46 => ?_)
        refine g_iload C dX4_quarrelAt_49 0 rfl ?_
        refine g_bipush C dX4_quarrelAt_51 kb_10 ?_
        refine g_icmp_neN (tgt := 61) C dX4_quarrelAt_53 (by decide) (by omega) (by omega) (fun c_53 => ?_) (fun c_53 => ?_)
        · refine g_iload C dX4_quarrelAt_61 0 rfl ?_
          exact g_iret C hr hlk dX4_quarrelAt_63 (Nat.le_of_ble_eq_true rfl) (Nat.le_of_ble_eq_true rfl) rfl ⟨_, rfl, ⟨by unfold m_qa; rw [if_neg c_1, if_neg c_10, if_pos c_24, if_neg c_53], rfl, rfl⟩⟩
        · refine g_bipush C dX4_quarrelAt_56 kb_m4 ?_
          refine g_goto (tgt := 63) C dX4_quarrelAt_58 (by decide) ?_
          exact g_iret C hr hlk dX4_quarrelAt_63 (Nat.le_of_ble_eq_true rfl) (Nat.le_of_ble_eq_true rfl) rfl ⟨_, rfl, ⟨by unfold m_qa; rw [if_neg c_1, if_neg c_10, if_pos c_24, if_pos c_53], rfl, rfl⟩⟩
    · refine g_aload_n C dX4_quarrelAt_13 rfl 0 rfl ?_
      refine g_iload_n C dX4_quarrelAt_14 rfl 1 rfl ?_
      refine g_iload_n C dX4_quarrelAt_15 rfl 2 rfl ?_
      refine g_V2I C (met_X4_reasonAt G I V (by first | assumption | omega) (by omega)) (cwV 2 C.2.2.2.2.1 (lw_V q1253 q1255 qs33 q79 q1256) rfl rfl rfl ok_X4_reasonAt ⟨(Nat.le_of_ble_eq_true rfl), (Nat.le_of_ble_eq_true rfl)⟩) (mh_0 G) rfl (Nat.le_of_ble_eq_true rfl) dX4_quarrelAt_16 ⟨(Nat.le_of_ble_eq_true rfl), (Nat.le_of_ble_eq_true rfl)⟩ (fun r_16 h_16 n_16 hp_16 hn_16 => ?_)
      obtain ⟨rfl, rfl, rfl⟩ := hp_16
      refine g_goto (tgt := 42) C dX4_quarrelAt_19 (by decide) ?_
      refine g_istore (lv' := [(4, _), (0, _), (1, _), (2, _), (3, _)]) C dX4_quarrelAt_42 (by decide) rfl ?_
      refine g_iload_n C dX4_quarrelAt_44 rfl 4 rfl ?_
      refine g_iconst C dX4_quarrelAt_45 kc_1 ?_
      refine g_icmp_leN (tgt := 61) C dX4_quarrelAt_46 (by decide) (by omega) (by omega) (fun c_46 => ?_) (fun c_46 => absurd c_46 (by omega))
      refine g_iload C dX4_quarrelAt_61 0 rfl ?_
      exact g_iret C hr hlk dX4_quarrelAt_63 (Nat.le_of_ble_eq_true rfl) (Nat.le_of_ble_eq_true rfl) rfl ⟨_, rfl, ⟨by unfold m_qa; rw [if_neg c_1, if_pos c_10], rfl, rfl⟩⟩
  · refine g_iload_n C dX4_quarrelAt_4 rfl 2 rfl ?_
    refine g_goto (tgt := 42) C dX4_quarrelAt_5 (by decide) ?_
    refine g_istore (lv' := [(4, _), (0, _), (1, _), (2, _), (3, _)]) C dX4_quarrelAt_42 (by decide) rfl ?_
    refine g_iload_n C dX4_quarrelAt_44 rfl 4 rfl ?_
    refine g_iconst C dX4_quarrelAt_45 kc_1 ?_
    refine g_icmp_leN (tgt := 61) C dX4_quarrelAt_46 (by decide) (by omega) (by omega) (fun c_46 => ?_) (fun c_46 => absurd c_46 (by omega))
    refine g_iload C dX4_quarrelAt_61 0 rfl ?_
    exact g_iret C hr hlk dX4_quarrelAt_63 (Nat.le_of_ble_eq_true rfl) (Nat.le_of_ble_eq_true rfl) rfl ⟨_, rfl, ⟨by unfold m_qa; rw [if_pos c_1], rfl, rfl⟩⟩
theorem ok_X4_quarrel : yX4_quarrel.cls = "MapSheetsModel" ∧ yX4_quarrel.cls ≠ "java/lang/invoke/MethodHandle" ∧ yX4_quarrel.cls ≠ "java/lang/invoke/VarHandle" ∧ (parseMethodDescriptor yX4_quarrel.desc).map (fun d => d.parameters.length) = some 3 := by decide +kernel
set_option maxHeartbeats 4000000 in
set_option maxRecDepth 100000 in
theorem met_X4_quarrel {l : Launch} {D : va_G} {b0 n : Nat} {h0 : GH} {g : Nat → Nat} {s w a t b : Nat → Int32} {ty : Int32} {c : Nat} {r : Nat} {q : Nat} {x : Int32} {y : Int32} {z : Int32} (G : gM b0 g) (I : MI s c r) (V : MV s) (hq : q ≤ 4) : gMet l yX4_quarrel cX4_quarrel 6 ((some .int)) 6 139 0 0 D b0 (mh h0 D g s w a t b (nI q) ty) n [.ref (g 0), .int x, .int y, .int z] (pI (fun r' h' n' => ∃ a' b', rd_quarrel s c r x y z = r' ∧ mh h0 D g s w a' t b' (nI q) ty = h' ∧ n = n')) := by
  refine gMet.of (lv := [(0, _), (1, _), (2, _), (3, _)]) (by decide) (Nat.le_of_ble_eq_true rfl) rfl ?_
  intro p_ e_ U0 m_ args_ below_ meth_ co_ C hr hlk hnm
  have hI := m_ed_le I
  obtain ⟨I0, I1, I2, I3, I4, I5⟩ := id I
  refine g_aload_n C dX4_quarrel_0 rfl 0 rfl ?_
  refine g_iload_n C dX4_quarrel_1 rfl 1 rfl ?_
  refine g_V1I C (met_X4_isEdge G I) (cwV 1 C.2.2.2.2.1 (lw_V q1371 q1373 qs54 q79 q1374) rfl rfl rfl ok_X4_isEdge ⟨(Nat.le_of_ble_eq_true rfl), (Nat.le_of_ble_eq_true rfl)⟩) (mh_0 G) rfl (Nat.le_of_ble_eq_true rfl) dX4_quarrel_2 ⟨(Nat.le_of_ble_eq_true rfl), (Nat.le_of_ble_eq_true rfl)⟩ (fun r_2 h_2 n_2 hp_2 hn_2 => ?_)
  obtain ⟨rfl, rfl, rfl⟩ := hp_2
  refine g_if_eqB (tgt := 21) C dX4_quarrel_5 (by decide) (fun c_5 => ?_) (fun c_5 => ?_)
  · refine g_iconst C dX4_quarrel_21 kc_m1 ?_
    exact g_iret C hr hlk dX4_quarrel_22 (Nat.le_of_ble_eq_true rfl) (Nat.le_of_ble_eq_true rfl) rfl ⟨_, rfl, ⟨_, _, by unfold rd_quarrel; rw [c_5]; rfl, rfl, rfl⟩⟩
  · refine g_iload_n C dX4_quarrel_8 rfl 2 rfl ?_
    refine g_if_lt (tgt := 21) C dX4_quarrel_9 (by decide) (fun c_9 => ?_) (fun c_9 => ?_)
    · refine g_iconst C dX4_quarrel_21 kc_m1 ?_
      exact g_iret C hr hlk dX4_quarrel_22 (Nat.le_of_ble_eq_true rfl) (Nat.le_of_ble_eq_true rfl) rfl ⟨_, rfl, ⟨_, _, by unfold rd_quarrel; rw [c_5, decide_eq_false (Int32.not_le.mpr c_9)]; rfl, rfl, rfl⟩⟩
    · refine g_iload_n C dX4_quarrel_12 rfl 3 rfl ?_
      refine g_iconst C dX4_quarrel_13 kc_0 ?_
      refine g_iconst C dX4_quarrel_14 kc_3 ?_
      refine g_S3I C (met_X4_in) (va_cwS 3 C.2.2.2.2.1 (lw_S q1186 q1187 q79 q1188) rfl rfl rfl ok_X4_in ⟨(Nat.le_of_ble_eq_true rfl), (Nat.le_of_ble_eq_true rfl)⟩) (Nat.le_of_ble_eq_true rfl) dX4_quarrel_15 ⟨(Nat.le_of_ble_eq_true rfl), (Nat.le_of_ble_eq_true rfl)⟩ (fun r_15 h_15 n_15 hp_15 hn_15 => ?_)
      obtain ⟨rfl, rfl, rfl⟩ := hp_15
      refine g_if_neB (tgt := 23) C dX4_quarrel_18 (by decide) (fun c_18 => ?_) (fun c_18 => ?_)
      · rw [in0_eq (by omega)] at c_18
        obtain ⟨e, he, rfl⟩ := isIn_ex c_5
        obtain ⟨j, hj, rfl⟩ := nI_of c_9
        obtain ⟨z9, hz, rfl⟩ := isIn_ex c_18
        have hy : decide (0 ≤ nI j) = true := decide_eq_true (nI_pos' hj)
        refine g_iload_n C dX4_quarrel_23 rfl 2 rfl ?_
        refine g_istore (lv' := [(4, _), (0, _), (1, _), (2, _), (3, _)]) C dX4_quarrel_24 (by decide) rfl ?_
        refine g_iconst C dX4_quarrel_26 kc_0 ?_
        refine g_istore (lv' := [(5, _), (4, _), (0, _), (1, _), (2, _), (3, _)]) C dX4_quarrel_27 (by decide) rfl ?_
        have hQ : rd_quarrel s c r (nI e) (nI j) (nI z9) = m_qf s c r e z9 10 0 j := by unfold rd_quarrel; rw [c_5, hy, c_18, tn_nI (k := e) (by omega), tn_nI (k := z9) (by omega), tn_nI hj]; rfl
        have loop : ∀ (N_ i left : Nat), i ≤ 10 → 10 < i + N_ → left < 2 ^ 31 → m_qf s c r e z9 10 0 j = m_qf s c r e z9 (10 - i) i left → gW p_ l e_ (headSpec (ws_ yX4_quarrel cX4_quarrel 6 ((some .int))) (gRm 6 139 0 0)).room U0 m_ args_ below_ meth_ co_ (MQ below_ (gQc D b0 (pI (fun r' h' n' => ∃ a' b', rd_quarrel s c r (nI e) (nI j) (nI z9) = r' ∧ mh h0 D g s w a' t b' (nI q) ty = h' ∧ n = n'))) args_ U0 0 0 (gA b0)) D b0 6 (mh h0 D g s w a t b (nI q) ty) n 0 0 29 [(0, .ref (g 0)), (1, .int (nI e)), (2, .int (nI j)), (3, .int (nI z9)), (4, .int (nI left)), (5, .int (nI i))] [] := by
          intro N_
          induction N_ with
          | zero => intro i left h1_ h2_; exact absurd h2_ (by omega)
          | succ N_ ih =>
            intro i left h1_ h2_ hlf hinv
            refine g_iload C dX4_quarrel_29 5 rfl ?_
            refine g_bipush C dX4_quarrel_31 kb_10 ?_
            refine g_icmp_geN (tgt := 69) C dX4_quarrel_33 (by decide) (by omega) (by omega) (fun c_33 => ?_) (fun c_33 => ?_)
            · refine g_bipush C dX4_quarrel_69 kb_m4 ?_
              exact g_iret C hr hlk dX4_quarrel_71 (Nat.le_of_ble_eq_true rfl) (Nat.le_of_ble_eq_true rfl) rfl ⟨_, rfl, ⟨_, _, by rw [hQ, hinv, show 10 - i = 0 by omega]; rfl, rfl, rfl⟩⟩
            · refine g_aload_n C dX4_quarrel_36 rfl 0 rfl ?_
              refine g_iload_n C dX4_quarrel_37 rfl 1 rfl ?_
              refine g_iload C dX4_quarrel_38 5 rfl ?_
              refine g_V2I C (met_X4_reasonAt G I V (by first | assumption | omega) (by omega)) (cwV 2 C.2.2.2.2.1 (lw_V q1253 q1255 qs33 q79 q1256) rfl rfl rfl ok_X4_reasonAt ⟨(Nat.le_of_ble_eq_true rfl), (Nat.le_of_ble_eq_true rfl)⟩) (mh_0 G) rfl (Nat.le_of_ble_eq_true rfl) dX4_quarrel_40 ⟨(Nat.le_of_ble_eq_true rfl), (Nat.le_of_ble_eq_true rfl)⟩ (fun r_40 h_40 n_40 hp_40 hn_40 => ?_)
              obtain ⟨rfl, rfl, rfl⟩ := hp_40
              have hrs : m_rs s c r e i ≤ 2 := by unfold m_rs; split <;> (try split) <;> omega
              refine g_if_leN (tgt := 63) C dX4_quarrel_43 (by decide) (by omega) (fun c_43 => ?_) (fun c_43 => ?_)
              · refine g_iinc (lv' := [(5, _), (0, _), (1, _), (2, _), (3, _), (4, _)]) (t := 5) C dX4_quarrel_63 rfl (nI_1 _) (by decide) rfl ?_
                refine g_goto (tgt := 29) C dX4_quarrel_66 (by decide) ?_
                refine g_pick (lv' := [(0, _), (1, _), (2, _), (3, _), (4, _), (5, _)]) [1, 2, 3, 4, 5, 0] rfl ?_
                exact ih (i + 1) left (by omega) (by omega) (by omega) (by rw [hinv, show 10 - i = (10 - (i + 1)) + 1 by omega]; show (if _ then _ else _) = _; rw [if_neg (by omega)])
              · refine g_iload C dX4_quarrel_46 4 rfl ?_
                refine g_if_neN (tgt := 60) C dX4_quarrel_48 (by decide) (by omega) (fun c_48 => ?_) (fun c_48 => ?_)
                · refine g_iinc (lv' := [(4, _), (0, _), (1, _), (2, _), (3, _), (5, _)]) (t := 4) C dX4_quarrel_60 rfl (nI_dec (by omega)) (by decide) rfl ?_
                  refine g_iinc (lv' := [(5, _), (4, _), (0, _), (1, _), (2, _), (3, _)]) (t := 5) C dX4_quarrel_63 rfl (nI_1 _) (by decide) rfl ?_
                  refine g_goto (tgt := 29) C dX4_quarrel_66 (by decide) ?_
                  refine g_pick (lv' := [(0, _), (1, _), (2, _), (3, _), (4, _), (5, _)]) [2, 3, 4, 5, 1, 0] rfl ?_
                  exact ih (i + 1) (left - 1) (by omega) (by omega) (by omega) (by rw [hinv, show 10 - i = (10 - (i + 1)) + 1 by omega]; show (if _ then _ else _) = _; rw [if_pos c_43, if_neg c_48])
                · refine g_aload_n C dX4_quarrel_51 rfl 0 rfl ?_
                  refine g_iload_n C dX4_quarrel_52 rfl 1 rfl ?_
                  refine g_iload C dX4_quarrel_53 5 rfl ?_
                  refine g_iload_n C dX4_quarrel_55 rfl 3 rfl ?_
                  refine g_V3I C (met_X4_quarrelAt G I V (by first | assumption | omega) (by omega) (by omega)) (cwV 3 C.2.2.2.2.1 (lw_V q1387 q1389 qs56 q79 q1390) rfl rfl rfl ok_X4_quarrelAt ⟨(Nat.le_of_ble_eq_true rfl), (Nat.le_of_ble_eq_true rfl)⟩) (mh_0 G) rfl (Nat.le_of_ble_eq_true rfl) dX4_quarrel_56 ⟨(Nat.le_of_ble_eq_true rfl), (Nat.le_of_ble_eq_true rfl)⟩ (fun r_56 h_56 n_56 hp_56 hn_56 => ?_)
                  obtain ⟨rfl, rfl, rfl⟩ := hp_56
                  exact g_iret C hr hlk dX4_quarrel_59 (Nat.le_of_ble_eq_true rfl) (Nat.le_of_ble_eq_true rfl) rfl ⟨_, rfl, ⟨_, _, by rw [hQ, hinv, show 10 - i = (10 - i - 1) + 1 by omega]; unfold m_qf; rw [if_pos c_43, if_pos c_48], rfl, rfl⟩⟩
        refine g_pick (lv' := [(0, _), (1, _), (2, _), (3, _), (4, _), (5, _)]) [2, 3, 4, 5, 1, 0] rfl ?_
        exact loop 11 0 j (by omega) (by omega) (by omega) rfl
      · rw [in0_eq (by omega)] at c_18
        refine g_iconst C dX4_quarrel_21 kc_m1 ?_
        exact g_iret C hr hlk dX4_quarrel_22 (Nat.le_of_ble_eq_true rfl) (Nat.le_of_ble_eq_true rfl) rfl ⟨_, rfl, ⟨_, _, by unfold rd_quarrel; rw [c_5, c_18, Bool.and_false]; rfl, rfl, rfl⟩⟩
theorem ok_X4_agree : yX4_agree.cls = "MapSheetsModel" ∧ yX4_agree.cls ≠ "java/lang/invoke/MethodHandle" ∧ yX4_agree.cls ≠ "java/lang/invoke/VarHandle" ∧ (parseMethodDescriptor yX4_agree.desc).map (fun d => d.parameters.length) = some 1 := by decide +kernel
set_option maxHeartbeats 4000000 in
set_option maxRecDepth 100000 in
theorem met_X4_agree {l : Launch} {D : va_G} {b0 n : Nat} {h0 : GH} {g : Nat → Nat} {s w a t b : Nat → Int32} {ty : Int32} {c : Nat} {r : Nat} {q : Nat} {x : Int32} (G : gM b0 g) (I : MI s c r) (V : MV s) (hq : q ≤ 4) : gMet l yX4_agree cX4_agree 3 ((some .int)) 6 138 0 0 D b0 (mh h0 D g s w a t b (nI q) ty) n [.ref (g 0), .int x] (pI (fun r' h' n' => ∃ a' b', (sp_agree s c r x).1 = r' ∧ MR h0 D g (sp_agree s c r x) s w a' t b' q ty = h' ∧ n = n')) := by
  refine gMet.of (lv := [(0, _), (1, _)]) (by decide) (Nat.le_of_ble_eq_true rfl) rfl ?_
  intro p_ e_ U0 m_ args_ below_ meth_ co_ C hr hlk hnm
  have hI := m_ed_le I
  obtain ⟨I0, I1, I2, I3, I4, I5⟩ := id I
  refine g_aload_n C dX4_agree_0 rfl 0 rfl ?_
  refine g_iload_n C dX4_agree_1 rfl 1 rfl ?_
  refine g_V1I C (met_X4_isEdge G I) (cwV 1 C.2.2.2.2.1 (lw_V q1371 q1373 qs54 q79 q1374) rfl rfl rfl ok_X4_isEdge ⟨(Nat.le_of_ble_eq_true rfl), (Nat.le_of_ble_eq_true rfl)⟩) (mh_0 G) rfl (Nat.le_of_ble_eq_true rfl) dX4_agree_2 ⟨(Nat.le_of_ble_eq_true rfl), (Nat.le_of_ble_eq_true rfl)⟩ (fun r_2 h_2 n_2 hp_2 hn_2 => ?_)
  obtain ⟨rfl, rfl, rfl⟩ := hp_2
  refine g_if_neB (tgt := 10) C dX4_agree_5 (by decide) (fun c_5 => ?_) (fun c_5 => ?_)
  · obtain ⟨e, he, rfl⟩ := isIn_ex c_5
    have hqn : m_qn s c r e ≤ 10 := cnt_le _ _
    refine g_aload_n C dX4_agree_10 rfl 0 rfl ?_
    refine g_iload_n C dX4_agree_11 rfl 1 rfl ?_
    refine g_V1I C (met_X4_quarrels G I V (by first | assumption | omega)) (cwV 1 C.2.2.2.2.1 (lw_V q1249 q1251 qs32 q79 q1252) rfl rfl rfl ok_X4_quarrels ⟨(Nat.le_of_ble_eq_true rfl), (Nat.le_of_ble_eq_true rfl)⟩) (mh_0 G) rfl (Nat.le_of_ble_eq_true rfl) dX4_agree_12 ⟨(Nat.le_of_ble_eq_true rfl), (Nat.le_of_ble_eq_true rfl)⟩ (fun r_12 h_12 n_12 hp_12 hn_12 => ?_)
    obtain ⟨rfl, rfl, rfl⟩ := hp_12
    refine g_if_leN (tgt := 21) C dX4_agree_15 (by decide) (by omega) (fun c_15 => ?_) (fun c_15 => ?_)
    · refine g_aload_n C dX4_agree_21 rfl 0 rfl ?_
      refine g_V0V C (met_X4_hold G) (cwV 0 C.2.2.2.2.1 (lw_V q1189 q1191 qs19 q79 q1192) rfl rfl rfl ok_X4_hold ⟨(Nat.le_of_ble_eq_true rfl), (Nat.le_of_ble_eq_true rfl)⟩) (mh_0 G) rfl (Nat.le_of_ble_eq_true rfl) dX4_agree_22 ⟨(Nat.le_of_ble_eq_true rfl), (Nat.le_of_ble_eq_true rfl)⟩ (fun h_22 n_22 hp_22 hn_22 => ?_)
      obtain ⟨rfl, rfl⟩ := hp_22
      refine g_aload_n C dX4_agree_25 rfl 0 rfl ?_
      refine g_get C in_X4 (mh_0 G) rfl 0 (by decide) q1160 (fun _ hx => hx) rfl dX4_agree_26 ?_
      refine g_iconst C dX4_agree_29 kc_4 ?_
      refine g_iload_n C dX4_agree_30 rfl 1 rfl ?_
      refine g_iaddN C dX4_agree_31 ?_
      refine g_ialdN C (mh_1 G) (by omega) (by omega) dX4_agree_32 ?_
      refine g_istore_n (lv' := [(2, _), (0, _), (1, _)]) C dX4_agree_33 rfl (by decide) rfl ?_
      refine g_aload_n C dX4_agree_34 rfl 1 rfl ?_
      refine g_get C in_X4 (mh_0 G) rfl 0 (by decide) q1160 (fun _ hx => hx) rfl dX4_agree_35 ?_
      refine g_iconst C dX4_agree_38 kc_4 ?_
      refine g_iload_n C dX4_agree_39 rfl 2 rfl ?_
      refine g_iaddN C dX4_agree_40 ?_
      refine g_iconst C dX4_agree_41 kc_1 ?_
      refine g_iastN C (mh_1 G) G.ge1 (by omega) (by omega) (mh_u1 G) dX4_agree_42 ?_
      refine g_aload_n C dX4_agree_43 rfl 1 rfl ?_
      refine g_iload_n C dX4_agree_44 rfl 0 rfl ?_
      refine g_V1I C (met_X4_records G (by omega)) (cwV 1 C.2.2.2.2.1 (lw_V q1201 q1203 qs22 q79 q1204) rfl rfl rfl ok_X4_records ⟨(Nat.le_of_ble_eq_true rfl), (Nat.le_of_ble_eq_true rfl)⟩) (mh_0 G) rfl (Nat.le_of_ble_eq_true rfl) dX4_agree_45 ⟨(Nat.le_of_ble_eq_true rfl), (Nat.le_of_ble_eq_true rfl)⟩ (fun r_45 h_45 n_45 hp_45 hn_45 => ?_)
      obtain ⟨rfl, rfl, rfl⟩ := hp_45
      have ho : sp_agree s c r (nI e) = (s (4 + e), some (upd s (4 + e) (nI 1))) := by unfold sp_agree; rw [if_pos c_5, tn_nI (k := e) (by omega), if_neg (by omega)]
      exact g_iret C hr hlk dX4_agree_48 (Nat.le_of_ble_eq_true rfl) (Nat.le_of_ble_eq_true rfl) rfl ⟨_, rfl, ⟨_, _, by rw [ho], by rw [m_rw_cp, ho]; rfl, rfl⟩⟩
    · refine g_bipush C dX4_agree_18 kb_m2 ?_
      have ho : sp_agree s c r (nI e) = (-2, none) := by unfold sp_agree; rw [if_pos c_5, tn_nI (k := e) (by omega), if_pos c_15]
      exact g_iret C hr hlk dX4_agree_20 (Nat.le_of_ble_eq_true rfl) (Nat.le_of_ble_eq_true rfl) rfl ⟨_, rfl, ⟨_, _, by rw [ho], by rw [ho]; rfl, rfl⟩⟩
  · refine g_iconst C dX4_agree_8 kc_m1 ?_
    have ho : sp_agree s c r x = (-1, none) := by unfold sp_agree; rw [c_5]; rfl
    exact g_iret C hr hlk dX4_agree_9 (Nat.le_of_ble_eq_true rfl) (Nat.le_of_ble_eq_true rfl) rfl ⟨_, rfl, ⟨_, _, by rw [ho], by rw [ho]; rfl, rfl⟩⟩
theorem ok_X4_findsBlocks : yX4_findsBlocks.cls = "MapSheetsModel" ∧ yX4_findsBlocks.cls ≠ "java/lang/invoke/MethodHandle" ∧ yX4_findsBlocks.cls ≠ "java/lang/invoke/VarHandle" ∧ (parseMethodDescriptor yX4_findsBlocks.desc).map (fun d => d.parameters.length) = some 0 := by decide +kernel
set_option maxHeartbeats 4000000 in
set_option maxRecDepth 100000 in
theorem met_X4_findsBlocks {l : Launch} {D : va_G} {b0 n : Nat} {h0 : GH} {g : Nat → Nat} {s w a t b : Nat → Int32} {st ty : Int32} {c : Nat} {r : Nat}  (G : gM b0 g) (I : MI s c r) : gMet l yX4_findsBlocks cX4_findsBlocks 5 (none) 3 63 0 0 D b0 (mh h0 D g s w a t b st ty) n [.ref (g 0)] (pV (fun h' n' => (mh h0 D g s w a t (fill (fun k => nI ((m_bl s c r) k)) b 0 (c * r)) st ty) = h' ∧ n = n')) := by
  refine gMet.of (lv := [(0, _)]) (by decide) (Nat.le_of_ble_eq_true rfl) rfl ?_
  intro p_ e_ U0 m_ args_ below_ meth_ co_ C hr hlk hnm
  have hI := m_ed_le I
  obtain ⟨I0, I1, I2, I3, I4, I5⟩ := id I
  refine g_iconst C dX4_findsBlocks_0 kc_0 ?_
  refine g_istore_n (lv' := [(1, _), (0, _)]) C dX4_findsBlocks_1 rfl (by decide) rfl ?_
  have loop : ∀ (N_ i : Nat), i ≤ c * r → c * r < i + N_ → gW p_ l e_ (headSpec (ws_ yX4_findsBlocks cX4_findsBlocks 5 (none)) (gRm 3 63 0 0)).room U0 m_ args_ below_ meth_ co_ (MQ below_ (gQc D b0 (pV (fun h' n' => (mh h0 D g s w a t (fill (fun k => nI ((m_bl s c r) k)) b 0 (c * r)) st ty) = h' ∧ n = n'))) args_ U0 0 0 (gA b0)) D b0 5 (mh h0 D g s w a t (fill (fun k => nI k) b 0 i) st ty) n 0 0 2 [(0, .ref (g 0)), (1, .int (nI i))] [] := by
    intro N_
    induction N_ with
    | zero => intro i h1_ h2_; exact absurd h2_ (by omega)
    | succ N_ ih =>
      intro i h1_ h2_
      refine g_iload_n C dX4_findsBlocks_2 rfl 1 rfl ?_
      refine g_aload_n C dX4_findsBlocks_3 rfl 0 rfl ?_
      refine g_V0I C (met_X4_sheets G I) (cwV 0 C.2.2.2.2.1 (lw_V q1221 q1223 qs25 q79 q1224) rfl rfl rfl ok_X4_sheets ⟨(Nat.le_of_ble_eq_true rfl), (Nat.le_of_ble_eq_true rfl)⟩) (mh_0 G) rfl (Nat.le_of_ble_eq_true rfl) dX4_findsBlocks_4 ⟨(Nat.le_of_ble_eq_true rfl), (Nat.le_of_ble_eq_true rfl)⟩ (fun r_4 h_4 n_4 hp_4 hn_4 => ?_)
      obtain ⟨rfl, rfl, rfl⟩ := hp_4
      refine g_icmp_geN (tgt := 23) C dX4_findsBlocks_7 (by decide) (by omega) (by omega) (fun c_7 => ?_) (fun c_7 => ?_)
      · refine g_iconst C dX4_findsBlocks_23 kc_1 ?_
        refine g_topi (y := bI (true)) (show nI 1 = bI true by decide) ?_
        refine g_istore_n (lv' := [(1, _), (0, _)]) C dX4_findsBlocks_24 rfl (by decide) rfl ?_
        have loop2 : ∀ (N2 : Nat) (B : Nat → Nat) (gs : Bool), (∀ k, k < c * r → B k < 36) → ((gs = true ∧ bsum B (c * r) + 1 < N2 ∧ m_bl s c r = m_bt (m_ag s) c r (N2 - 1) B) ∨ (gs = false ∧ m_bl s c r = B ∧ 0 < N2)) → gW p_ l e_ (headSpec (ws_ yX4_findsBlocks cX4_findsBlocks 5 (none)) (gRm 3 63 0 0)).room U0 m_ args_ below_ meth_ co_ (MQ below_ (gQc D b0 (pV (fun h' n' => (mh h0 D g s w a t (fill (fun k => nI ((m_bl s c r) k)) b 0 (c * r)) st ty) = h' ∧ n = n'))) args_ U0 0 0 (gA b0)) D b0 5 (mh h0 D g s w a t (fill (fun k => nI (B k)) b 0 (c * r)) st ty) n 0 0 25 [(0, .ref (g 0)), (1, .int (bI gs))] [] := by
          intro N2
          induction N2 with
          | zero => intro B gs hB hg; exact absurd hg (by omega)
          | succ N2 ih2 =>
            intro B gs hB hg
            refine g_iload_n C dX4_findsBlocks_25 rfl 1 rfl ?_
            refine g_if_eqB (tgt := 133) C dX4_findsBlocks_26 (by decide) (fun c_26 => ?_) (fun c_26 => ?_)
            · have hBl : m_bl s c r = B := by
                rcases hg with ⟨hg1, -⟩ | ⟨-, hg2, -⟩
                · rw [c_26] at hg1; cases hg1
                · exact hg2
              exact g_vret C hr hlk dX4_findsBlocks_133 (Nat.le_of_ble_eq_true rfl) (Nat.le_of_ble_eq_true rfl) ⟨rfl, by rw [hBl], rfl⟩
            · refine g_iconst C dX4_findsBlocks_29 kc_0 ?_
              refine g_topi (y := bI (m_bc (m_ag s) c r B 0)) (show nI 0 = bI false by decide) ?_
              refine g_istore_n (lv' := [(1, _), (0, _)]) C dX4_findsBlocks_30 rfl (by decide) rfl ?_
              refine g_iconst C dX4_findsBlocks_31 kc_0 ?_
              refine g_istore_n (lv' := [(2, _), (1, _), (0, _)]) C dX4_findsBlocks_32 rfl (by decide) rfl ?_
              have loop3 : ∀ (N3 i : Nat), i ≤ m_ed c r → m_ed c r < i + N3 → gW p_ l e_ (headSpec (ws_ yX4_findsBlocks cX4_findsBlocks 5 (none)) (gRm 3 63 0 0)).room U0 m_ args_ below_ meth_ co_ (MQ below_ (gQc D b0 (pV (fun h' n' => (mh h0 D g s w a t (fill (fun k => nI ((m_bl s c r) k)) b 0 (c * r)) st ty) = h' ∧ n = n'))) args_ U0 0 0 (gA b0)) D b0 5 (mh h0 D g s w a t (fill (fun k => nI ((m_bp (m_ag s) c r B i) k)) b 0 (c * r)) st ty) n 0 0 33 [(0, .ref (g 0)), (1, .int (bI (m_bc (m_ag s) c r B i))), (2, .int (nI i))] [] := by
                intro N3
                induction N3 with
                | zero => intro i h5_ h6_; exact absurd h6_ (by omega)
                | succ N3 ih3 =>
                  intro i h5_ h6_
                  obtain ⟨P, hP⟩ : ∃ P, P = m_bp (m_ag s) c r B i := ⟨_, rfl⟩
                  have hPB : ∀ k, k < c * r → P k < 36 := fun k hk => by rw [hP]; exact Nat.lt_of_le_of_lt (m_bp_le _ _ _ _ _ _) (hB k hk)
                  refine g_iload_n C dX4_findsBlocks_33 rfl 2 rfl ?_
                  refine g_aload_n C dX4_findsBlocks_34 rfl 0 rfl ?_
                  refine g_V0I C (met_X4_edges G I) (cwV 0 C.2.2.2.2.1 (lw_V q1193 q1195 qs20 q79 q1196) rfl rfl rfl ok_X4_edges ⟨(Nat.le_of_ble_eq_true rfl), (Nat.le_of_ble_eq_true rfl)⟩) (mh_0 G) rfl (Nat.le_of_ble_eq_true rfl) dX4_findsBlocks_35 ⟨(Nat.le_of_ble_eq_true rfl), (Nat.le_of_ble_eq_true rfl)⟩ (fun r_35 h_35 n_35 hp_35 hn_35 => ?_)
                  obtain ⟨rfl, rfl, rfl⟩ := hp_35
                  refine g_icmp_geN (tgt := 130) C dX4_findsBlocks_38 (by decide) (by omega) (by omega) (fun c_38 => ?_) (fun c_38 => ?_)
                  · refine g_goto (tgt := 25) C dX4_findsBlocks_130 (by decide) ?_
                    refine g_pick (lv' := [(0, _), (1, _)]) [0, 1] rfl ?_
                    obtain rfl : i = m_ed c r := by omega
                    exact ih2 _ _ (fun k hk => Nat.lt_of_le_of_lt (m_bp_le _ _ _ _ _ _) (hB k hk)) (by
                      rcases hg with ⟨-, hg1, hg2⟩ | ⟨hg1, -⟩
                      · obtain ⟨N4, rfl⟩ : ∃ M, N2 = M + 1 := ⟨N2 - 1, by omega⟩
                        rw [Nat.add_sub_cancel] at hg2
                        cases hch : m_bc (m_ag s) c r B (m_ed c r) with
                        | true => exact Or.inl ⟨rfl, by have := m_bp_lt I B (m_ed c r) (Nat.le_refl _) hch; omega, by rw [hg2, m_bt_t hch]; rfl⟩
                        | false => exact Or.inr ⟨rfl, by rw [hg2, m_bt_f hch, m_bp_same hch], by omega⟩
                      · rw [c_26] at hg1; cases hg1)
                  · have hfs := m_fs_lt I (e := i) (by omega)
                    have hp1 := hPB _ hfs.1
                    have hp2 := hPB _ hfs.2.1
                    rw [hP] at hp1 hp2
                    refine g_aload_n C dX4_findsBlocks_41 rfl 0 rfl ?_
                    refine g_get C in_X4 (mh_0 G) rfl 6 (by decide) q1166 (fun _ hx => hx) rfl dX4_findsBlocks_42 ?_
                    refine g_aload_n C dX4_findsBlocks_45 rfl 0 rfl ?_
                    refine g_iload_n C dX4_findsBlocks_46 rfl 2 rfl ?_
                    refine g_V1I C (met_X4_firstOf G I (by first | assumption | omega)) (cwV 1 C.2.2.2.2.1 (lw_V q1261 q1263 qs35 q79 q1264) rfl rfl rfl ok_X4_firstOf ⟨(Nat.le_of_ble_eq_true rfl), (Nat.le_of_ble_eq_true rfl)⟩) (mh_0 G) rfl (Nat.le_of_ble_eq_true rfl) dX4_findsBlocks_47 ⟨(Nat.le_of_ble_eq_true rfl), (Nat.le_of_ble_eq_true rfl)⟩ (fun r_47 h_47 n_47 hp_47 hn_47 => ?_)
                    obtain ⟨rfl, rfl, rfl⟩ := hp_47
                    refine g_ialdN C (mh_5 G) (by omega) (by omega) dX4_findsBlocks_50 ?_
                    refine g_topi (y := nI (m_bp (m_ag s) c r B i (m_fst c r i))) (by rw [fill_in (by omega) (by omega)]) ?_
                    refine g_istore_n (lv' := [(3, _), (0, _), (1, _), (2, _)]) C dX4_findsBlocks_51 rfl (by decide) rfl ?_
                    refine g_aload_n C dX4_findsBlocks_52 rfl 1 rfl ?_
                    refine g_get C in_X4 (mh_0 G) rfl 6 (by decide) q1166 (fun _ hx => hx) rfl dX4_findsBlocks_53 ?_
                    refine g_aload_n C dX4_findsBlocks_56 rfl 1 rfl ?_
                    refine g_iload_n C dX4_findsBlocks_57 rfl 3 rfl ?_
                    refine g_V1I C (met_X4_secondOf G I (by first | assumption | omega)) (cwV 1 C.2.2.2.2.1 (lw_V q1277 q1279 qs39 q79 q1280) rfl rfl rfl ok_X4_secondOf ⟨(Nat.le_of_ble_eq_true rfl), (Nat.le_of_ble_eq_true rfl)⟩) (mh_0 G) rfl (Nat.le_of_ble_eq_true rfl) dX4_findsBlocks_58 ⟨(Nat.le_of_ble_eq_true rfl), (Nat.le_of_ble_eq_true rfl)⟩ (fun r_58 h_58 n_58 hp_58 hn_58 => ?_)
                    obtain ⟨rfl, rfl, rfl⟩ := hp_58
                    refine g_ialdN C (mh_5 G) (by omega) (by omega) dX4_findsBlocks_61 ?_
                    refine g_topi (y := nI (m_bp (m_ag s) c r B i (m_snd c r i))) (by rw [fill_in (by omega) (by omega)]) ?_
                    refine g_istore (lv' := [(4, _), (3, _), (0, _), (1, _), (2, _)]) C dX4_findsBlocks_62 (by decide) rfl ?_
                    refine g_aload_n C dX4_findsBlocks_64 rfl 2 rfl ?_
                    refine g_iload_n C dX4_findsBlocks_65 rfl 4 rfl ?_
                    refine g_V1I C (met_X4_isAgreed G (by omega)) (cwV 1 C.2.2.2.2.1 (lw_V q1245 q1247 qs31 q79 q1248) rfl rfl rfl ok_X4_isAgreed ⟨(Nat.le_of_ble_eq_true rfl), (Nat.le_of_ble_eq_true rfl)⟩) (mh_0 G) rfl (Nat.le_of_ble_eq_true rfl) dX4_findsBlocks_66 ⟨(Nat.le_of_ble_eq_true rfl), (Nat.le_of_ble_eq_true rfl)⟩ (fun r_66 h_66 n_66 hp_66 hn_66 => ?_)
                    obtain ⟨rfl, rfl, rfl⟩ := hp_66
                    refine g_if_eqB (tgt := 124) C dX4_findsBlocks_69 (by decide) (fun c_69 => ?_) (fun c_69 => ?_)
                    · have hbad : (m_ag s i && decide (m_bp (m_ag s) c r B i (m_fst c r i) ≠ m_bp (m_ag s) c r B i (m_snd c r i))) = false := by rw [show m_ag s i = false from c_69]; rfl
                      refine g_iinc (lv' := [(2, _), (4, _), (3, _), (0, _), (1, _)]) (t := 4) C dX4_findsBlocks_124 rfl (nI_1 _) (by decide) rfl ?_
                      refine g_goto (tgt := 33) C dX4_findsBlocks_127 (by decide) ?_
                      refine g_pick (lv' := [(0, _), (1, _), (2, _)]) [3, 4, 0] rfl ?_
                      refine g_heap (h' := mh h0 D g s w a t (fill (fun k => nI ((m_bp (m_ag s) c r B (i + 1)) k)) b 0 (c * r)) st ty) (by show _ = mh h0 D g _ _ _ _ (fill (fun k => nI (m_bs (m_ag s) c r (m_bp (m_ag s) c r B i) i k)) b 0 (c * r)) _ _; unfold m_bs; rw [if_neg (by rw [hbad]; decide)]) ?_
                      refine g_eq (lv' := [(0, .ref (g 0)), (1, .int (bI (m_bc (m_ag s) c r B (i + 1)))), (2, .int (nI (i + 1)))]) rfl (by show _ = [(0, Value.ref (g 0)), (1, Value.int (bI (m_bc (m_ag s) c r B i || (m_ag s i && decide (m_bp (m_ag s) c r B i (m_fst c r i) ≠ m_bp (m_ag s) c r B i (m_snd c r i)))))), (2, Value.int (nI (i + 1)))]; rw [hbad, Bool.or_false]) rfl ?_
                      exact ih3 (i + 1) (by omega) (by omega)
                    · refine g_iload_n C dX4_findsBlocks_72 rfl 1 rfl ?_
                      refine g_iload C dX4_findsBlocks_73 0 rfl ?_
                      refine g_icmp_eqN (tgt := 124) C dX4_findsBlocks_75 (by decide) (by omega) (by omega) (fun c_75 => ?_) (fun c_75 => ?_)
                      · have hbad : (m_ag s i && decide (m_bp (m_ag s) c r B i (m_fst c r i) ≠ m_bp (m_ag s) c r B i (m_snd c r i))) = false := by rw [decide_eq_false (fun z => z c_75), Bool.and_false]
                        refine g_iinc (lv' := [(2, _), (4, _), (3, _), (0, _), (1, _)]) (t := 4) C dX4_findsBlocks_124 rfl (nI_1 _) (by decide) rfl ?_
                        refine g_goto (tgt := 33) C dX4_findsBlocks_127 (by decide) ?_
                        refine g_pick (lv' := [(0, _), (1, _), (2, _)]) [3, 4, 0] rfl ?_
                        refine g_heap (h' := mh h0 D g s w a t (fill (fun k => nI ((m_bp (m_ag s) c r B (i + 1)) k)) b 0 (c * r)) st ty) (by show _ = mh h0 D g _ _ _ _ (fill (fun k => nI (m_bs (m_ag s) c r (m_bp (m_ag s) c r B i) i k)) b 0 (c * r)) _ _; unfold m_bs; rw [if_neg (by rw [hbad]; decide)]) ?_
                        refine g_eq (lv' := [(0, .ref (g 0)), (1, .int (bI (m_bc (m_ag s) c r B (i + 1)))), (2, .int (nI (i + 1)))]) rfl (by show _ = [(0, Value.ref (g 0)), (1, Value.int (bI (m_bc (m_ag s) c r B i || (m_ag s i && decide (m_bp (m_ag s) c r B i (m_fst c r i) ≠ m_bp (m_ag s) c r B i (m_snd c r i)))))), (2, Value.int (nI (i + 1)))]; rw [hbad, Bool.or_false]) rfl ?_
                        exact ih3 (i + 1) (by omega) (by omega)
                      · have hbad : (m_ag s i && decide (m_bp (m_ag s) c r B i (m_fst c r i) ≠ m_bp (m_ag s) c r B i (m_snd c r i))) = true := by rw [show m_ag s i = true from c_69, decide_eq_true c_75]; rfl
                        refine g_aload_n C dX4_findsBlocks_78 rfl 2 rfl ?_
                        refine g_get C in_X4 (mh_0 G) rfl 6 (by decide) q1166 (fun _ hx => hx) rfl dX4_findsBlocks_79 ?_
                        refine g_aload_n C dX4_findsBlocks_82 rfl 2 rfl ?_
                        refine g_iload_n C dX4_findsBlocks_83 rfl 4 rfl ?_
                        refine g_V1I C (met_X4_firstOf G I (by first | assumption | omega)) (cwV 1 C.2.2.2.2.1 (lw_V q1261 q1263 qs35 q79 q1264) rfl rfl rfl ok_X4_firstOf ⟨(Nat.le_of_ble_eq_true rfl), (Nat.le_of_ble_eq_true rfl)⟩) (mh_0 G) rfl (Nat.le_of_ble_eq_true rfl) dX4_findsBlocks_84 ⟨(Nat.le_of_ble_eq_true rfl), (Nat.le_of_ble_eq_true rfl)⟩ (fun r_84 h_84 n_84 hp_84 hn_84 => ?_)
                        obtain ⟨rfl, rfl, rfl⟩ := hp_84
                        refine g_iload_n C dX4_findsBlocks_87 rfl 1 rfl ?_
                        refine g_iload C dX4_findsBlocks_88 0 rfl ?_
                        refine g_icmp_geN (tgt := 97) C dX4_findsBlocks_90 (by decide) (by omega) (by omega) (fun c_90 => ?_) (fun c_90 => ?_)
                        · have hx9 : m_bp (m_ag s) c r B i (m_snd c r i) = if m_bp (m_ag s) c r B i (m_fst c r i) < m_bp (m_ag s) c r B i (m_snd c r i) then m_bp (m_ag s) c r B i (m_fst c r i) else m_bp (m_ag s) c r B i (m_snd c r i) := by rw [if_neg (by omega)]
                          refine g_iload C dX4_findsBlocks_97 0 rfl ?_
                          refine g_iastN C (mh_5 G) G.ge5 (by omega) (by omega) (mh_u5 G) dX4_findsBlocks_99 ?_
                          refine g_aload_n C dX4_findsBlocks_100 rfl 2 rfl ?_
                          refine g_get C in_X4 (mh_0 G) rfl 6 (by decide) q1166 (fun _ hx => hx) rfl dX4_findsBlocks_101 ?_
                          refine g_aload_n C dX4_findsBlocks_104 rfl 2 rfl ?_
                          refine g_iload_n C dX4_findsBlocks_105 rfl 4 rfl ?_
                          refine g_V1I C (met_X4_secondOf G I (by first | assumption | omega)) (cwV 1 C.2.2.2.2.1 (lw_V q1277 q1279 qs39 q79 q1280) rfl rfl rfl ok_X4_secondOf ⟨(Nat.le_of_ble_eq_true rfl), (Nat.le_of_ble_eq_true rfl)⟩) (mh_0 G) rfl (Nat.le_of_ble_eq_true rfl) dX4_findsBlocks_106 ⟨(Nat.le_of_ble_eq_true rfl), (Nat.le_of_ble_eq_true rfl)⟩ (fun r_106 h_106 n_106 hp_106 hn_106 => ?_)
                          obtain ⟨rfl, rfl, rfl⟩ := hp_106
                          refine g_iload_n C dX4_findsBlocks_109 rfl 1 rfl ?_
                          refine g_iload C dX4_findsBlocks_110 0 rfl ?_
                          refine g_icmp_geN (tgt := 119) C dX4_findsBlocks_112 (by decide) (by omega) (by omega) (fun c_112 => ?_) (fun c_112 => absurd c_112 (by omega))
                          refine g_iload C dX4_findsBlocks_119 0 rfl ?_
                          refine g_iastN C (mh_5 G) G.ge5 (by omega) (by omega) (mh_u5 G) dX4_findsBlocks_121 ?_
                          refine g_iconst C dX4_findsBlocks_122 kc_1 ?_
                          refine g_topi (y := bI (m_bc (m_ag s) c r B (i + 1))) (bI_t (by show (m_bc (m_ag s) c r B i || _) = true; rw [hbad, Bool.or_true])) ?_
                          refine g_istore_n (lv' := [(1, _), (4, _), (3, _), (0, _), (2, _)]) C dX4_findsBlocks_123 rfl (by decide) rfl ?_
                          refine g_iinc (lv' := [(2, _), (1, _), (4, _), (3, _), (0, _)]) (t := 4) C dX4_findsBlocks_124 rfl (nI_1 _) (by decide) rfl ?_
                          refine g_goto (tgt := 33) C dX4_findsBlocks_127 (by decide) ?_
                          refine g_pick (lv' := [(0, _), (1, _), (2, _)]) [4, 1, 0] rfl ?_
                          refine g_heap (h' := mh h0 D g s w a t (fill (fun k => nI ((m_bp (m_ag s) c r B (i + 1)) k)) b 0 (c * r)) st ty) (by rw [fill_bs (ag := m_ag s) (e := i) (B := m_bp (m_ag s) c r B i) hfs.1 hfs.2.1 hbad rfl hx9]; rfl) ?_
                          exact ih3 (i + 1) (by omega) (by omega)
                        · have hx9 : m_bp (m_ag s) c r B i (m_fst c r i) = if m_bp (m_ag s) c r B i (m_fst c r i) < m_bp (m_ag s) c r B i (m_snd c r i) then m_bp (m_ag s) c r B i (m_fst c r i) else m_bp (m_ag s) c r B i (m_snd c r i) := by rw [if_pos (by omega)]
                          refine g_iload_n C dX4_findsBlocks_93 rfl 1 rfl ?_
                          refine g_goto (tgt := 99) C dX4_findsBlocks_94 (by decide) ?_
                          refine g_iastN C (mh_5 G) G.ge5 (by omega) (by omega) (mh_u5 G) dX4_findsBlocks_99 ?_
                          refine g_aload_n C dX4_findsBlocks_100 rfl 2 rfl ?_
                          refine g_get C in_X4 (mh_0 G) rfl 6 (by decide) q1166 (fun _ hx => hx) rfl dX4_findsBlocks_101 ?_
                          refine g_aload_n C dX4_findsBlocks_104 rfl 2 rfl ?_
                          refine g_iload_n C dX4_findsBlocks_105 rfl 4 rfl ?_
                          refine g_V1I C (met_X4_secondOf G I (by first | assumption | omega)) (cwV 1 C.2.2.2.2.1 (lw_V q1277 q1279 qs39 q79 q1280) rfl rfl rfl ok_X4_secondOf ⟨(Nat.le_of_ble_eq_true rfl), (Nat.le_of_ble_eq_true rfl)⟩) (mh_0 G) rfl (Nat.le_of_ble_eq_true rfl) dX4_findsBlocks_106 ⟨(Nat.le_of_ble_eq_true rfl), (Nat.le_of_ble_eq_true rfl)⟩ (fun r_106 h_106 n_106 hp_106 hn_106 => ?_)
                          obtain ⟨rfl, rfl, rfl⟩ := hp_106
                          refine g_iload_n C dX4_findsBlocks_109 rfl 1 rfl ?_
                          refine g_iload C dX4_findsBlocks_110 0 rfl ?_
                          refine g_icmp_geN (tgt := 119) C dX4_findsBlocks_112 (by decide) (by omega) (by omega) (fun c_112 => absurd c_112 (by omega)) (fun c_112 => ?_)
                          refine g_iload_n C dX4_findsBlocks_115 rfl 1 rfl ?_
                          refine g_goto (tgt := 121) C dX4_findsBlocks_116 (by decide) ?_
                          refine g_iastN C (mh_5 G) G.ge5 (by omega) (by omega) (mh_u5 G) dX4_findsBlocks_121 ?_
                          refine g_iconst C dX4_findsBlocks_122 kc_1 ?_
                          refine g_topi (y := bI (m_bc (m_ag s) c r B (i + 1))) (bI_t (by show (m_bc (m_ag s) c r B i || _) = true; rw [hbad, Bool.or_true])) ?_
                          refine g_istore_n (lv' := [(1, _), (4, _), (3, _), (0, _), (2, _)]) C dX4_findsBlocks_123 rfl (by decide) rfl ?_
                          refine g_iinc (lv' := [(2, _), (1, _), (4, _), (3, _), (0, _)]) (t := 4) C dX4_findsBlocks_124 rfl (nI_1 _) (by decide) rfl ?_
                          refine g_goto (tgt := 33) C dX4_findsBlocks_127 (by decide) ?_
                          refine g_pick (lv' := [(0, _), (1, _), (2, _)]) [4, 1, 0] rfl ?_
                          refine g_heap (h' := mh h0 D g s w a t (fill (fun k => nI ((m_bp (m_ag s) c r B (i + 1)) k)) b 0 (c * r)) st ty) (by rw [fill_bs (ag := m_ag s) (e := i) (B := m_bp (m_ag s) c r B i) hfs.1 hfs.2.1 hbad rfl hx9]; rfl) ?_
                          exact ih3 (i + 1) (by omega) (by omega)
              refine g_pick (lv' := [(0, _), (1, _), (2, _)]) [2, 1, 0] rfl ?_
              exact loop3 (m_ed c r + 1 - 0) 0 (by omega) (by omega)
        refine g_pick (lv' := [(0, _), (1, _)]) [1, 0] rfl ?_
        refine g_heap (h' := mh h0 D g s w a t (fill (fun k => nI ((fun k => k) k)) b 0 (c * r)) st ty) (by rw [show i = c * r by omega]) ?_
        exact loop2 1301 (fun k => k) true (fun k hk => by omega) (Or.inl ⟨rfl, by have := bsum_id (c * r) (by omega); omega, rfl⟩)
      · refine g_aload_n C dX4_findsBlocks_10 rfl 0 rfl ?_
        refine g_get C in_X4 (mh_0 G) rfl 6 (by decide) q1166 (fun _ hx => hx) rfl dX4_findsBlocks_11 ?_
        refine g_iload_n C dX4_findsBlocks_14 rfl 1 rfl ?_
        refine g_iload_n C dX4_findsBlocks_15 rfl 1 rfl ?_
        refine g_iastN C (mh_5 G) G.ge5 (by omega) (by omega) (mh_u5 G) dX4_findsBlocks_16 ?_
        refine g_iinc (lv' := [(1, _), (0, _)]) (t := 1) C dX4_findsBlocks_17 rfl (nI_1 _) (by decide) rfl ?_
        refine g_goto (tgt := 2) C dX4_findsBlocks_20 (by decide) ?_
        refine g_pick (lv' := [(0, _), (1, _)]) [1, 0] rfl ?_
        refine g_heap (h' := (mh h0 D g s w a t (fill (fun k => nI k) b 0 (i + 1)) st ty)) (by rw [fill_s (by omega) rfl]) ?_
        exact ih (i + 1) (by omega) (by omega)
  refine g_pick (lv' := [(0, _), (1, _)]) [1, 0] rfl ?_
  refine g_heap (h' := (mh h0 D g s w a t (fill (fun k => nI k) b 0 0) st ty)) (by rw [fill_0]) ?_
  exact loop (c * r + 1 - 0) 0 (by omega) (by omega)
theorem ok_X4_blocks : yX4_blocks.cls = "MapSheetsModel" ∧ yX4_blocks.cls ≠ "java/lang/invoke/MethodHandle" ∧ yX4_blocks.cls ≠ "java/lang/invoke/VarHandle" ∧ (parseMethodDescriptor yX4_blocks.desc).map (fun d => d.parameters.length) = some 0 := by decide +kernel
set_option maxHeartbeats 4000000 in
set_option maxRecDepth 100000 in
theorem met_X4_blocks {l : Launch} {D : va_G} {b0 n : Nat} {h0 : GH} {g : Nat → Nat} {s w a t b : Nat → Int32} {st ty : Int32} {c : Nat} {r : Nat}  (G : gM b0 g) (I : MI s c r) : gMet l yX4_blocks cX4_blocks 3 ((some .int)) 4 87 0 0 D b0 (mh h0 D g s w a t b st ty) n [.ref (g 0)] (pI (fun r' h' n' => nI (m_bn s c r) = r' ∧ (mh h0 D g s w a t (fill (fun k => nI ((m_bl s c r) k)) b 0 (c * r)) st ty) = h' ∧ n = n')) := by
  refine gMet.of (lv := [(0, _)]) (by decide) (Nat.le_of_ble_eq_true rfl) rfl ?_
  intro p_ e_ U0 m_ args_ below_ meth_ co_ C hr hlk hnm
  have hI := m_ed_le I
  obtain ⟨I0, I1, I2, I3, I4, I5⟩ := id I
  refine g_aload_n C dX4_blocks_0 rfl 0 rfl ?_
  refine g_V0V C (met_X4_findsBlocks G I) (cwV 0 C.2.2.2.2.1 (lw_V q1329 q1331 qs47 q79 q1332) rfl rfl rfl ok_X4_findsBlocks ⟨(Nat.le_of_ble_eq_true rfl), (Nat.le_of_ble_eq_true rfl)⟩) (mh_0 G) rfl (Nat.le_of_ble_eq_true rfl) dX4_blocks_1 ⟨(Nat.le_of_ble_eq_true rfl), (Nat.le_of_ble_eq_true rfl)⟩ (fun h_1 n_1 hp_1 hn_1 => ?_)
  obtain ⟨rfl, rfl⟩ := hp_1
  refine g_iconst C dX4_blocks_4 kc_0 ?_
  refine g_istore_n (lv' := [(1, _), (0, _)]) C dX4_blocks_5 rfl (by decide) rfl ?_
  refine g_iconst C dX4_blocks_6 kc_0 ?_
  refine g_istore_n (lv' := [(2, _), (1, _), (0, _)]) C dX4_blocks_7 rfl (by decide) rfl ?_
  have loop : ∀ (N_ i : Nat), i ≤ c * r → c * r < i + N_ → gW p_ l e_ (headSpec (ws_ yX4_blocks cX4_blocks 3 ((some .int))) (gRm 4 87 0 0)).room U0 m_ args_ below_ meth_ co_ (MQ below_ (gQc D b0 (pI (fun r' h' n' => nI (m_bn s c r) = r' ∧ (mh h0 D g s w a t (fill (fun k => nI ((m_bl s c r) k)) b 0 (c * r)) st ty) = h' ∧ n = n'))) args_ U0 0 0 (gA b0)) D b0 3 (mh h0 D g s w a t (fill (fun k => nI ((m_bl s c r) k)) b 0 (c * r)) st ty) n 0 0 8 [(0, .ref (g 0)), (1, .int (nI (cnt (fun k => decide (m_bl s c r k = k)) i))), (2, .int (nI i))] [] := by
    intro N_
    induction N_ with
    | zero => intro i h1_ h2_; exact absurd h2_ (by omega)
    | succ N_ ih =>
      intro i h1_ h2_
      refine g_iload_n C dX4_blocks_8 rfl 2 rfl ?_
      refine g_aload_n C dX4_blocks_9 rfl 0 rfl ?_
      refine g_V0I C (met_X4_sheets G I) (cwV 0 C.2.2.2.2.1 (lw_V q1221 q1223 qs25 q79 q1224) rfl rfl rfl ok_X4_sheets ⟨(Nat.le_of_ble_eq_true rfl), (Nat.le_of_ble_eq_true rfl)⟩) (mh_0 G) rfl (Nat.le_of_ble_eq_true rfl) dX4_blocks_10 ⟨(Nat.le_of_ble_eq_true rfl), (Nat.le_of_ble_eq_true rfl)⟩ (fun r_10 h_10 n_10 hp_10 hn_10 => ?_)
      obtain ⟨rfl, rfl, rfl⟩ := hp_10
      refine g_icmp_geN (tgt := 40) C dX4_blocks_13 (by decide) (by omega) (by omega) (fun c_13 => ?_) (fun c_13 => ?_)
      · refine g_iload_n C dX4_blocks_40 rfl 1 rfl ?_
        exact g_iret C hr hlk dX4_blocks_41 (Nat.le_of_ble_eq_true rfl) (Nat.le_of_ble_eq_true rfl) rfl ⟨_, rfl, ⟨by rw [show i = c * r by omega]; rfl, rfl, rfl⟩⟩
      · refine g_iload_n C dX4_blocks_16 rfl 1 rfl ?_
        refine g_aload_n C dX4_blocks_17 rfl 0 rfl ?_
        refine g_get C in_X4 (mh_0 G) rfl 6 (by decide) q1166 (fun _ hx => hx) rfl dX4_blocks_18 ?_
        refine g_iload_n C dX4_blocks_21 rfl 2 rfl ?_
        refine g_ialdN C (mh_5 G) (by omega) (by omega) dX4_blocks_22 ?_
        have hbl : m_bl s c r i < 2 ^ 31 := Nat.lt_of_le_of_lt (m_bl_le s c r i) (by omega)
        refine g_topi (y := nI (m_bl s c r i)) (by rw [fill_in (by omega) (by omega)]) ?_
        refine g_iload_n C dX4_blocks_23 rfl 2 rfl ?_
        refine g_icmp_neN (tgt := 31) C dX4_blocks_24 (by decide) (by omega) (by omega) (fun c_24 => ?_) (fun c_24 => ?_)
        · refine g_iconst C dX4_blocks_31 kc_0 ?_
          refine g_iaddN C dX4_blocks_32 ?_
          refine g_istore_n (lv' := [(1, _), (0, _), (2, _)]) C dX4_blocks_33 rfl (by decide) rfl ?_
          refine g_iinc (lv' := [(2, _), (1, _), (0, _)]) (t := 2) C dX4_blocks_34 rfl (nI_1 _) (by decide) rfl ?_
          refine g_goto (tgt := 8) C dX4_blocks_37 (by decide) ?_
          refine g_pick (lv' := [(0, _), (1, _), (2, _)]) [2, 1, 0] rfl ?_
          refine g_eq (lv' := [(0, .ref (g 0)), (1, .int (nI (cnt (fun k => decide (m_bl s c r k = k)) (i + 1)))), (2, .int (nI (i + 1)))]) rfl (by rw [cnt_n (decide_eq_false c_24)]) rfl ?_
          exact ih (i + 1) (by omega) (by omega)
        · refine g_iconst C dX4_blocks_27 kc_1 ?_
          refine g_goto (tgt := 32) C dX4_blocks_28 (by decide) ?_
          refine g_iaddN C dX4_blocks_32 ?_
          refine g_istore_n (lv' := [(1, _), (0, _), (2, _)]) C dX4_blocks_33 rfl (by decide) rfl ?_
          refine g_iinc (lv' := [(2, _), (1, _), (0, _)]) (t := 2) C dX4_blocks_34 rfl (nI_1 _) (by decide) rfl ?_
          refine g_goto (tgt := 8) C dX4_blocks_37 (by decide) ?_
          refine g_pick (lv' := [(0, _), (1, _), (2, _)]) [2, 1, 0] rfl ?_
          refine g_eq (lv' := [(0, .ref (g 0)), (1, .int (nI (cnt (fun k => decide (m_bl s c r k = k)) (i + 1)))), (2, .int (nI (i + 1)))]) rfl (by rw [cnt_s (decide_eq_true c_24)]) rfl ?_
          exact ih (i + 1) (by omega) (by omega)
  refine g_pick (lv' := [(0, _), (1, _), (2, _)]) [2, 1, 0] rfl ?_
  exact loop (c * r + 1 - 0) 0 (by omega) (by omega)
theorem ok_X4_blockOf : yX4_blockOf.cls = "MapSheetsModel" ∧ yX4_blockOf.cls ≠ "java/lang/invoke/MethodHandle" ∧ yX4_blockOf.cls ≠ "java/lang/invoke/VarHandle" ∧ (parseMethodDescriptor yX4_blockOf.desc).map (fun d => d.parameters.length) = some 1 := by decide +kernel
set_option maxHeartbeats 4000000 in
set_option maxRecDepth 100000 in
theorem met_X4_blockOf {l : Launch} {D : va_G} {b0 n : Nat} {h0 : GH} {g : Nat → Nat} {s w a t b : Nat → Int32} {st ty : Int32} {c : Nat} {r : Nat} {k : Nat} (G : gM b0 g) (I : MI s c r) (hk : k < c * r) : gMet l yX4_blockOf cX4_blockOf 2 ((some .int)) 4 87 0 0 D b0 (mh h0 D g s w a t b st ty) n [.ref (g 0), .int (nI k)] (pI (fun r' h' n' => nI (m_bl s c r k) = r' ∧ (mh h0 D g s w a t (fill (fun k => nI ((m_bl s c r) k)) b 0 (c * r)) st ty) = h' ∧ n = n')) := by
  refine gMet.of (lv := [(0, _), (1, _)]) (by decide) (Nat.le_of_ble_eq_true rfl) rfl ?_
  intro p_ e_ U0 m_ args_ below_ meth_ co_ C hr hlk hnm
  have hI := m_ed_le I
  obtain ⟨I0, I1, I2, I3, I4, I5⟩ := id I
  refine g_aload_n C dX4_blockOf_0 rfl 0 rfl ?_
  refine g_V0V C (met_X4_findsBlocks G I) (cwV 0 C.2.2.2.2.1 (lw_V q1329 q1331 qs47 q79 q1332) rfl rfl rfl ok_X4_findsBlocks ⟨(Nat.le_of_ble_eq_true rfl), (Nat.le_of_ble_eq_true rfl)⟩) (mh_0 G) rfl (Nat.le_of_ble_eq_true rfl) dX4_blockOf_1 ⟨(Nat.le_of_ble_eq_true rfl), (Nat.le_of_ble_eq_true rfl)⟩ (fun h_1 n_1 hp_1 hn_1 => ?_)
  obtain ⟨rfl, rfl⟩ := hp_1
  refine g_aload_n C dX4_blockOf_4 rfl 0 rfl ?_
  refine g_get C in_X4 (mh_0 G) rfl 6 (by decide) q1166 (fun _ hx => hx) rfl dX4_blockOf_5 ?_
  refine g_iload_n C dX4_blockOf_8 rfl 1 rfl ?_
  refine g_ialdN C (mh_5 G) (by omega) (by omega) dX4_blockOf_9 ?_
  refine g_topi (y := nI (m_bl s c r k)) (by rw [fill_in (by omega) (by omega)]) ?_
  exact g_iret C hr hlk dX4_blockOf_10 (Nat.le_of_ble_eq_true rfl) (Nat.le_of_ble_eq_true rfl) rfl ⟨_, rfl, ⟨rfl, rfl, rfl⟩⟩
theorem ok_X4_release : yX4_release.cls = "MapSheetsModel" ∧ yX4_release.cls ≠ "java/lang/invoke/MethodHandle" ∧ yX4_release.cls ≠ "java/lang/invoke/VarHandle" ∧ (parseMethodDescriptor yX4_release.desc).map (fun d => d.parameters.length) = some 1 := by decide +kernel
set_option maxHeartbeats 4000000 in
set_option maxRecDepth 100000 in
theorem met_X4_release {l : Launch} {D : va_G} {b0 n : Nat} {h0 : GH} {g : Nat → Nat} {s w a t b : Nat → Int32} {ty : Int32} {c : Nat} {r : Nat} {q : Nat} {x : Int32} (G : gM b0 g) (I : MI s c r) (V : MV s) (hq : q ≤ 4) : gMet l yX4_release cX4_release 2 ((some .int)) 5 109 0 0 D b0 (mh h0 D g s w a t b (nI q) ty) n [.ref (g 0), .int x] (pI (fun r' h' n' => ∃ a' b', (sp_release s c r x).1 = r' ∧ MR h0 D g (sp_release s c r x) s w a' t b' q ty = h' ∧ n = n')) := by
  refine gMet.of (lv := [(0, _), (1, _)]) (by decide) (Nat.le_of_ble_eq_true rfl) rfl ?_
  intro p_ e_ U0 m_ args_ below_ meth_ co_ C hr hlk hnm
  have hI := m_ed_le I
  obtain ⟨I0, I1, I2, I3, I4, I5⟩ := id I
  refine g_aload_n C dX4_release_0 rfl 0 rfl ?_
  refine g_iload_n C dX4_release_1 rfl 1 rfl ?_
  refine g_V1I C (met_X4_isEdge G I) (cwV 1 C.2.2.2.2.1 (lw_V q1371 q1373 qs54 q79 q1374) rfl rfl rfl ok_X4_isEdge ⟨(Nat.le_of_ble_eq_true rfl), (Nat.le_of_ble_eq_true rfl)⟩) (mh_0 G) rfl (Nat.le_of_ble_eq_true rfl) dX4_release_2 ⟨(Nat.le_of_ble_eq_true rfl), (Nat.le_of_ble_eq_true rfl)⟩ (fun r_2 h_2 n_2 hp_2 hn_2 => ?_)
  obtain ⟨rfl, rfl, rfl⟩ := hp_2
  refine g_if_neB (tgt := 10) C dX4_release_5 (by decide) (fun c_5 => ?_) (fun c_5 => ?_)
  · obtain ⟨e, he, rfl⟩ := isIn_ex c_5
    have I9 : MI (upd s (4 + e) (nI 0)) c r := I.congr (upd_out (by omega)) (upd_out (by omega))
    refine g_aload_n C dX4_release_10 rfl 0 rfl ?_
    refine g_iload_n C dX4_release_11 rfl 1 rfl ?_
    refine g_V1I C (met_X4_isAgreed G (by omega)) (cwV 1 C.2.2.2.2.1 (lw_V q1245 q1247 qs31 q79 q1248) rfl rfl rfl ok_X4_isAgreed ⟨(Nat.le_of_ble_eq_true rfl), (Nat.le_of_ble_eq_true rfl)⟩) (mh_0 G) rfl (Nat.le_of_ble_eq_true rfl) dX4_release_12 ⟨(Nat.le_of_ble_eq_true rfl), (Nat.le_of_ble_eq_true rfl)⟩ (fun r_12 h_12 n_12 hp_12 hn_12 => ?_)
    obtain ⟨rfl, rfl, rfl⟩ := hp_12
    refine g_if_neB (tgt := 21) C dX4_release_15 (by decide) (fun c_15 => ?_) (fun c_15 => ?_)
    · refine g_aload_n C dX4_release_21 rfl 0 rfl ?_
      refine g_V0V C (met_X4_hold G) (cwV 0 C.2.2.2.2.1 (lw_V q1189 q1191 qs19 q79 q1192) rfl rfl rfl ok_X4_hold ⟨(Nat.le_of_ble_eq_true rfl), (Nat.le_of_ble_eq_true rfl)⟩) (mh_0 G) rfl (Nat.le_of_ble_eq_true rfl) dX4_release_22 ⟨(Nat.le_of_ble_eq_true rfl), (Nat.le_of_ble_eq_true rfl)⟩ (fun h_22 n_22 hp_22 hn_22 => ?_)
      obtain ⟨rfl, rfl⟩ := hp_22
      refine g_aload_n C dX4_release_25 rfl 0 rfl ?_
      refine g_get C in_X4 (mh_0 G) rfl 0 (by decide) q1160 (fun _ hx => hx) rfl dX4_release_26 ?_
      refine g_iconst C dX4_release_29 kc_4 ?_
      refine g_iload_n C dX4_release_30 rfl 1 rfl ?_
      refine g_iaddN C dX4_release_31 ?_
      refine g_iconst C dX4_release_32 kc_0 ?_
      refine g_iastN C (mh_1 G) G.ge1 (by omega) (by omega) (mh_u1 G) dX4_release_33 ?_
      refine g_aload_n C dX4_release_34 rfl 0 rfl ?_
      refine g_aload_n C dX4_release_35 rfl 0 rfl ?_
      refine g_V0I C (met_X4_blocks G I9) (cwV 0 C.2.2.2.2.1 (lw_V q1355 q1357 qs52 q79 q1358) rfl rfl rfl ok_X4_blocks ⟨(Nat.le_of_ble_eq_true rfl), (Nat.le_of_ble_eq_true rfl)⟩) (mh_0 G) rfl (Nat.le_of_ble_eq_true rfl) dX4_release_36 ⟨(Nat.le_of_ble_eq_true rfl), (Nat.le_of_ble_eq_true rfl)⟩ (fun r_36 h_36 n_36 hp_36 hn_36 => ?_)
      obtain ⟨rfl, rfl, rfl⟩ := hp_36
      refine g_V1I C (met_X4_records G (by omega)) (cwV 1 C.2.2.2.2.1 (lw_V q1201 q1203 qs22 q79 q1204) rfl rfl rfl ok_X4_records ⟨(Nat.le_of_ble_eq_true rfl), (Nat.le_of_ble_eq_true rfl)⟩) (mh_0 G) rfl (Nat.le_of_ble_eq_true rfl) dX4_release_39 ⟨(Nat.le_of_ble_eq_true rfl), (Nat.le_of_ble_eq_true rfl)⟩ (fun r_39 h_39 n_39 hp_39 hn_39 => ?_)
      obtain ⟨rfl, rfl, rfl⟩ := hp_39
      have ho : sp_release s c r (nI e) = (nI (m_bn (upd s (4 + e) (nI 0)) c r), some (upd s (4 + e) (nI 0))) := by unfold sp_release; rw [if_pos c_5, tn_nI (k := e) (by omega), if_pos (of_decide_eq_true c_15)]
      exact g_iret C hr hlk dX4_release_42 (Nat.le_of_ble_eq_true rfl) (Nat.le_of_ble_eq_true rfl) rfl ⟨_, rfl, ⟨_, _, by rw [ho], by rw [m_rw_cp, ho]; rfl, rfl⟩⟩
    · refine g_bipush C dX4_release_18 kb_m2 ?_
      have ho : sp_release s c r (nI e) = (-2, none) := by unfold sp_release; rw [if_pos c_5, tn_nI (k := e) (by omega), if_neg (of_decide_eq_false c_15)]
      exact g_iret C hr hlk dX4_release_20 (Nat.le_of_ble_eq_true rfl) (Nat.le_of_ble_eq_true rfl) rfl ⟨_, rfl, ⟨_, _, by rw [ho], by rw [ho]; rfl, rfl⟩⟩
  · refine g_iconst C dX4_release_8 kc_m1 ?_
    have ho : sp_release s c r x = (-1, none) := by unfold sp_release; rw [c_5]; rfl
    exact g_iret C hr hlk dX4_release_9 (Nat.le_of_ble_eq_true rfl) (Nat.le_of_ble_eq_true rfl) rfl ⟨_, rfl, ⟨_, _, by rw [ho], by rw [ho]; rfl, rfl⟩⟩
