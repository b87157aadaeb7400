theorem ok_X1_isClean : yX1_isClean.cls = "MapSheets$Library" ∧ yX1_isClean.cls ≠ "java/lang/invoke/MethodHandle" ∧ yX1_isClean.cls ≠ "java/lang/invoke/VarHandle" ∧ (parseMethodDescriptor yX1_isClean.desc).map (fun d => d.parameters.length) = some 1 := by decide +kernel
set_option maxHeartbeats 4000000 in
set_option maxRecDepth 100000 in
theorem met_X1_isClean {l : Launch} {D : va_G} {b0 n : Nat} {h : GH} {Z : Nat → Prop} {ad : Nat → Nat} {s : Nat → Int32} {c r : Nat} {e : Nat} (B : LbAt D b0 h Z ad s c r) (I : MI s c r) (V : MV s) (z0 : h (D.1 201) = gP D 102 0 (fun _ => none)) (he : e < m_ed c r) : gMet l yX1_isClean cX1_isClean 2 ((some .boolean)) 6 133 12 33 D b0 h n [.ref (ad 0), .ref (ad (6 + e))] (pI (fun r' h' n' => bI (decide (m_qn s c r e = 0)) = r' ∧ (∀ q, q < n → h' q = h q) ∧ n < n')) := by
  refine gMet.of (lv := [(0, _), (1, _)]) (by decide) (Nat.le_of_ble_eq_true rfl) rfl ?_
  intro p_ e_ U0 m_ args_ below_ meth_ co_ C hr hlk hnm
  have hq10 : m_qn s c r e ≤ 10 := cnt_le _ 10
  refine g_aload_n C dX1_isClean_0 rfl 0 rfl ?_
  refine g_aload_n C dX1_isClean_1 rfl 1 rfl ?_
  refine g_V1R C (met_X1_quarrels B I V z0 (by omega)) (cwV 1 C.2.2.2.2.1 (lw_V q541 q542 q543 q64 q544) rfl rfl rfl ok_X1_quarrels ⟨(Nat.le_of_ble_eq_true rfl), (Nat.le_of_ble_eq_true rfl)⟩) B.obj rfl (Nat.le_of_ble_eq_true rfl) dX1_isClean_2 ⟨(Nat.le_of_ble_eq_true rfl), (Nat.le_of_ble_eq_true rfl)⟩ (fun r_2 h_2 n_2 hp_2 hn_2 => ?_)
  obtain ⟨rfl, ⟨arr, cap, m, F, L, -⟩, fr, hln⟩ := hp_2
  refine g_V0I C (met_J2_isEmpty L.1 (by omega)) (cwV 0 C.2.2.2.2.1 (lw_V q573 q574 q575 q67 q576) rfl rfl rfl ok_J2_isEmpty ⟨(Nat.le_of_ble_eq_true rfl), (Nat.le_of_ble_eq_true rfl)⟩) L.1 rfl (Nat.le_of_ble_eq_true rfl) dX1_isClean_5 ⟨(Nat.le_of_ble_eq_true rfl), (Nat.le_of_ble_eq_true rfl)⟩ (fun r_5 h_5 n_5 hp_5 hn_5 => ?_)
  obtain ⟨rfl, rfl, rfl⟩ := hp_5
  exact g_iret C hr hlk dX1_isClean_8 (Nat.le_of_ble_eq_true rfl) (Nat.le_of_ble_eq_true rfl) (bI_nar _) ⟨_, rfl, ⟨rfl, fr, hln⟩⟩
theorem ok_X1_ratio : yX1_ratio.cls = "MapSheets$Library" ∧ yX1_ratio.cls ≠ "java/lang/invoke/MethodHandle" ∧ yX1_ratio.cls ≠ "java/lang/invoke/VarHandle" ∧ (parseMethodDescriptor yX1_ratio.desc).map (fun d => d.parameters.length) = some 1 := by decide +kernel
set_option maxHeartbeats 4000000 in
set_option maxRecDepth 100000 in
theorem met_X1_ratio {l : Launch} {D : va_G} {b0 n : Nat} {h : GH} {Z : Nat → Prop} {ad : Nat → Nat} {s : Nat → Int32} {c r : Nat} {e : Nat} (B : LbAt D b0 h Z ad s c r) (I : MI s c r) (Fl : MF s) (he : e < m_ed c r) : gMet l yX1_ratio cX1_ratio 2 ((some .float)) 4 85 0 0 D b0 h n [.ref (ad 0), .ref (ad (6 + e))] (pF (fun r' h' n' => m_rat s c r e = r' ∧ h = h' ∧ n = n')) := by
  refine gMet.of (lv := [(0, _), (1, _)]) (by decide) (Nat.le_of_ble_eq_true rfl) rfl ?_
  intro p_ e_ U0 m_ args_ below_ meth_ co_ C hr hlk hnm
  have hI := m_ed_le I
  obtain ⟨I0, I1, I2, I3, I4, I5⟩ := id I
  have hfs := m_fs_lt I he
  refine g_aload_n C dX1_ratio_0 rfl 0 rfl ?_
  refine g_aload_n C dX1_ratio_1 rfl 1 rfl ?_
  refine g_getN C in_X3 (B.ed e he) rfl 0 (by decide) q327 (fun _ hx => hx) rfl dX1_ratio_2 ?_
  refine g_V1R C (met_X1_sheet B I hfs.1) (cwV 1 C.2.2.2.2.1 (lw_V q549 q522 q523 q64 q524) rfl rfl rfl ok_X1_sheet ⟨(Nat.le_of_ble_eq_true rfl), (Nat.le_of_ble_eq_true rfl)⟩) B.obj rfl (Nat.le_of_ble_eq_true rfl) dX1_ratio_5 ⟨(Nat.le_of_ble_eq_true rfl), (Nat.le_of_ble_eq_true rfl)⟩ (fun r_5 h_5 n_5 hp_5 hn_5 => ?_)
  obtain ⟨rfl, rfl, rfl⟩ := hp_5
  refine g_getN C in_X2 (B.sh _ hfs.1).obj rfl 4 (by decide) q239 (fun _ hx => hx) rfl dX1_ratio_8 ?_
  refine g_aload_n C dX1_ratio_11 rfl 0 rfl ?_
  refine g_aload_n C dX1_ratio_12 rfl 1 rfl ?_
  refine g_getN C in_X3 (B.ed e he) rfl 1 (by decide) q330 (fun _ hx => hx) rfl dX1_ratio_13 ?_
  refine g_V1R C (met_X1_sheet B I hfs.2.1) (cwV 1 C.2.2.2.2.1 (lw_V q549 q522 q523 q64 q524) rfl rfl rfl ok_X1_sheet ⟨(Nat.le_of_ble_eq_true rfl), (Nat.le_of_ble_eq_true rfl)⟩) B.obj rfl (Nat.le_of_ble_eq_true rfl) dX1_ratio_16 ⟨(Nat.le_of_ble_eq_true rfl), (Nat.le_of_ble_eq_true rfl)⟩ (fun r_16 h_16 n_16 hp_16 hn_16 => ?_)
  obtain ⟨rfl, rfl, rfl⟩ := hp_16
  refine g_getN C in_X2 (B.sh _ hfs.2.1).obj rfl 4 (by decide) q239 (fun _ hx => hx) rfl dX1_ratio_19 ?_
  refine g_fdiv C dX1_ratio_22 (Fl.rt (by omega) (by omega)).2 ?_
  exact g_fret C hr hlk dX1_ratio_23 (Nat.le_of_ble_eq_true rfl) (Nat.le_of_ble_eq_true rfl) ⟨_, rfl, ⟨rfl, rfl, rfl⟩⟩
theorem ok_X1_fits : yX1_fits.cls = "MapSheets$Library" ∧ yX1_fits.cls ≠ "java/lang/invoke/MethodHandle" ∧ yX1_fits.cls ≠ "java/lang/invoke/VarHandle" ∧ (parseMethodDescriptor yX1_fits.desc).map (fun d => d.parameters.length) = some 1 := by decide +kernel
set_option maxHeartbeats 4000000 in
set_option maxRecDepth 100000 in
theorem met_X1_fits {l : Launch} {D : va_G} {b0 n : Nat} {h : GH} {Z : Nat → Prop} {ad : Nat → Nat} {s : Nat → Int32} {c r : Nat} {e : Nat} (B : LbAt D b0 h Z ad s c r) (I : MI s c r) (Fl : MF s) (he : e < m_ed c r) : gMet l yX1_fits cX1_fits 4 ((some .boolean)) 5 106 0 0 D b0 h n [.ref (ad 0), .ref (ad (6 + e))] (pI (fun r' h' n' => bI (m_fit s c r e) = r' ∧ h = h' ∧ n = n')) := by
  refine gMet.of (lv := [(0, _), (1, _)]) (by decide) (Nat.le_of_ble_eq_true rfl) rfl ?_
  intro p_ e_ U0 m_ args_ below_ meth_ co_ C hr hlk hnm
  have hI := m_ed_le I
  obtain ⟨I0, I1, I2, I3, I4, I5⟩ := id I
  have hfs := m_fs_lt I he
  obtain ⟨sf, hs1, hs2⟩ := B.st
  have hrt := Fl.rt (k := m_fst c r e) (j := m_snd c r e) (by omega) (by omega)
  have hfd := fl_f2d hrt.1 (by omega) (by omega)
  obtain ⟨hfd1, cc, qq, hfd2, hfd3, hfd4, hfd5, hfd6⟩ := hfd
  refine g_aload_n C dX1_fits_0 rfl 0 rfl ?_
  refine g_aload_n C dX1_fits_1 rfl 1 rfl ?_
  refine g_V1F C (met_X1_ratio B I Fl (by omega)) (cwV 1 C.2.2.2.2.1 (lw_V q640 q641 q642 q64 q643) rfl rfl rfl ok_X1_ratio ⟨(Nat.le_of_ble_eq_true rfl), (Nat.le_of_ble_eq_true rfl)⟩) B.obj rfl (Nat.le_of_ble_eq_true rfl) dX1_fits_2 ⟨(Nat.le_of_ble_eq_true rfl), (Nat.le_of_ble_eq_true rfl)⟩ (fun r_2 h_2 n_2 hp_2 hn_2 => ?_)
  obtain ⟨rfl, rfl, rfl⟩ := hp_2
  refine g_f2d C dX1_fits_5 hfd1 ?_
  refine g_dconst1 C dX1_fits_6 ?_
  refine g_dsub C dX1_fits_7 (fl_dsub hfd2 hfd4 hfd5 hfd6) ?_
  refine g_dstore_n (lv' := [(2, _), (0, _), (1, _)]) C dX1_fits_8 rfl (by decide) rfl ?_
  refine g_dload_n C dX1_fits_9 rfl 0 rfl ?_
  refine g_dconst0 C dX1_fits_10 ?_
  refine g_dcmp C dX1_fits_11 ?_
  refine g_if_ge (tgt := 20) C dX1_fits_12 (by decide) (fun c_12 => ?_) (fun c_12 => ?_)
  · refine g_dload_n C dX1_fits_20 rfl 0 rfl ?_
    refine g_aload_n C dX1_fits_21 rfl 1 rfl ?_
    refine g_get C in_X1 B.obj rfl 4 (by decide) q147 (fun _ hx => hx) rfl dX1_fits_22 ?_
    refine g_iconst C dX1_fits_25 kc_1 ?_
    refine g_ialdN C hs1 (by omega) (by omega) dX1_fits_26 ?_
    refine g_topi (y := s 3) (hs2 1 (by omega)) ?_
    refine g_i2d C dX1_fits_27 ?_
    refine g_ldc2d C q644 dX1_fits_28 ?_
    refine g_ddiv C dX1_fits_31 Fl.tol ?_
    refine g_dcmp C dX1_fits_32 ?_
    refine g_if_gt (tgt := 40) C dX1_fits_33 (by decide) (fun c_33 => ?_) (fun c_33 => ?_)
    · refine g_iconst C dX1_fits_40 kc_0 ?_
      exact g_iret C hr hlk dX1_fits_41 (Nat.le_of_ble_eq_true rfl) (Nat.le_of_ble_eq_true rfl) rfl ⟨_, rfl, ⟨by first | exact (bI_t (f_fit_t (f_ab_p c_12) c_33)).symm | exact (bI_t (f_fit_t (f_ab_n c_12) c_33)).symm | exact (bI_f (f_fit_f (f_ab_p c_12) c_33)).symm | exact (bI_f (f_fit_f (f_ab_n c_12) c_33)).symm, rfl, rfl⟩⟩
    · refine g_iconst C dX1_fits_36 kc_1 ?_
      refine g_goto (tgt := 41) C dX1_fits_37 (by decide) ?_
      exact g_iret C hr hlk dX1_fits_41 (Nat.le_of_ble_eq_true rfl) (Nat.le_of_ble_eq_true rfl) rfl ⟨_, rfl, ⟨by first | exact (bI_t (f_fit_t (f_ab_p c_12) c_33)).symm | exact (bI_t (f_fit_t (f_ab_n c_12) c_33)).symm | exact (bI_f (f_fit_f (f_ab_p c_12) c_33)).symm | exact (bI_f (f_fit_f (f_ab_n c_12) c_33)).symm, rfl, rfl⟩⟩
  · refine g_dload_n C dX1_fits_15 rfl 0 rfl ?_
    refine g_dneg C dX1_fits_16 ?_
    refine g_goto (tgt := 21) C dX1_fits_17 (by decide) ?_
    refine g_aload_n C dX1_fits_21 rfl 1 rfl ?_
    refine g_get C in_X1 B.obj rfl 4 (by decide) q147 (fun _ hx => hx) rfl dX1_fits_22 ?_
    refine g_iconst C dX1_fits_25 kc_1 ?_
    refine g_ialdN C hs1 (by omega) (by omega) dX1_fits_26 ?_
    refine g_topi (y := s 3) (hs2 1 (by omega)) ?_
    refine g_i2d C dX1_fits_27 ?_
    refine g_ldc2d C q644 dX1_fits_28 ?_
    refine g_ddiv C dX1_fits_31 Fl.tol ?_
    refine g_dcmp C dX1_fits_32 ?_
    refine g_if_gt (tgt := 40) C dX1_fits_33 (by decide) (fun c_33 => ?_) (fun c_33 => ?_)
    · refine g_iconst C dX1_fits_40 kc_0 ?_
      exact g_iret C hr hlk dX1_fits_41 (Nat.le_of_ble_eq_true rfl) (Nat.le_of_ble_eq_true rfl) rfl ⟨_, rfl, ⟨by first | exact (bI_t (f_fit_t (f_ab_p c_12) c_33)).symm | exact (bI_t (f_fit_t (f_ab_n c_12) c_33)).symm | exact (bI_f (f_fit_f (f_ab_p c_12) c_33)).symm | exact (bI_f (f_fit_f (f_ab_n c_12) c_33)).symm, rfl, rfl⟩⟩
    · refine g_iconst C dX1_fits_36 kc_1 ?_
      refine g_goto (tgt := 41) C dX1_fits_37 (by decide) ?_
      exact g_iret C hr hlk dX1_fits_41 (Nat.le_of_ble_eq_true rfl) (Nat.le_of_ble_eq_true rfl) rfl ⟨_, rfl, ⟨by first | exact (bI_t (f_fit_t (f_ab_p c_12) c_33)).symm | exact (bI_t (f_fit_t (f_ab_n c_12) c_33)).symm | exact (bI_f (f_fit_f (f_ab_p c_12) c_33)).symm | exact (bI_f (f_fit_f (f_ab_n c_12) c_33)).symm, rfl, rfl⟩⟩
theorem ok_X1_edgesOf : yX1_edgesOf.cls = "MapSheets$Library" ∧ yX1_edgesOf.cls ≠ "java/lang/invoke/MethodHandle" ∧ yX1_edgesOf.cls ≠ "java/lang/invoke/VarHandle" ∧ (parseMethodDescriptor yX1_edgesOf.desc).map (fun d => d.parameters.length) = some 2 := by decide +kernel
set_option maxHeartbeats 4000000 in
set_option maxRecDepth 100000 in
theorem met_X1_edgesOf {l : Launch} {D : va_G} {b0 n : Nat} {h : GH} {Z : Nat → Prop} {ad : Nat → Nat} {s : Nat → Int32} {c r : Nat} {x : Int32} {ag : Bool} (B : LbAt D b0 h Z ad s c r) (I : MI s c r) (Gg : MG s) : gMet l yX1_edgesOf cX1_edgesOf 6 ((some .int)) 3 61 1 4 D b0 h n [.ref (ad 0), .int x, .int (bI ag)] (pI (fun r' h' n' => nI (cnt (efE s c r x ag) (m_ed c r)) = r' ∧ (∀ q, q < n → h' q = h q) ∧ n < n')) := by
  refine gMet.of (lv := [(0, _), (1, _), (2, _)]) (by decide) (Nat.le_of_ble_eq_true rfl) rfl ?_
  intro p_ e_ U0 m_ args_ below_ meth_ co_ C hr hlk hnm
  have hI := m_ed_le I
  obtain ⟨I0, I1, I2, I3, I4, I5⟩ := id I
  obtain ⟨cp2, mm2, F2, L2, G2⟩ := B.l2
  refine g_none (fun hno => ?_)
  refine g_size C (fun hb0 => ?_)
  refine g_iconst C dX1_edgesOf_0 kc_0 ?_
  refine g_istore_n (lv' := [(3, _), (0, _), (1, _), (2, _)]) C dX1_edgesOf_1 rfl (by decide) rfl ?_
  refine g_aload_n C dX1_edgesOf_2 rfl 1 rfl ?_
  refine g_get C in_X1 B.obj rfl 3 (by decide) q145 (fun _ hx => hx) rfl dX1_edgesOf_3 ?_
  refine g_V0R C (met_J2_iterator L2.1) (cwV 0 C.2.2.2.2.1 (lw_V q427 q428 q429 q67 q430) rfl rfl rfl ok_J2_iterator ⟨(Nat.le_of_ble_eq_true rfl), (Nat.le_of_ble_eq_true rfl)⟩) L2.1 rfl (Nat.le_of_ble_eq_true rfl) dX1_edgesOf_6 ⟨(Nat.le_of_ble_eq_true rfl), (Nat.le_of_ble_eq_true rfl)⟩ (fun r_6 h_6 n_6 hp_6 hn_6 => ?_)
  obtain ⟨rfl, rfl, rfl⟩ := hp_6
  refine g_astore (lv' := [(4, _), (3, _), (0, _), (1, _), (2, _)]) C dX1_edgesOf_9 (by decide) rfl ?_
  have loop : ∀ (N_ i : Nat) (h1 : GH) (n1 : Nat) (lr : Int32), i ≤ m_ed c r → m_ed c r < i + N_ → h1 n = gO 11 [.int (nI i), .int lr, .int mm2, .ref (ad 2)] → (∀ q, q < n → h1 q = h q) → n < n1 → gW p_ l e_ (headSpec (ws_ yX1_edgesOf cX1_edgesOf 6 ((some .int))) (gRm 3 61 1 4)).room U0 m_ args_ below_ meth_ co_ (MQ below_ (gQc D b0 (pI (fun r' h' n' => nI (cnt (efE s c r x ag) (m_ed c r)) = r' ∧ (∀ q, q < n → h' q = h q) ∧ n < n'))) args_ U0 1 4 (gA b0)) D b0 6 h1 n1 1 4 11 [(0, .ref (ad 0)), (1, .int x), (2, .int (bI ag)), (3, .int (nI (cnt (efE s c r x ag) i))), (4, .ref n)] [] := by
    intro N_
    induction N_ with
    | zero => intro i h1 n1 lr h1_ h2_; exact absurd h2_ (by omega)
    | succ N_ ih =>
      intro i h1 n1 lr h1_ h2_ hT fr hn1
      refine g_none (fun hno1 => ?_)
      refine g_size C (fun hb1 => ?_)
      have L2k : LiAt D b0 h1 (ad 2) (ad 5) cp2 (m_ed c r) mm2 F2 := L2.kept (fr _ (B.lt hno (Or.inl (by omega)))) (fr _ (B.lt hno (Or.inl (by omega))))
      refine g_aload C dX1_edgesOf_11 4 rfl ?_
      refine g_F0I C (met_J11_hasNext hT L2k.1 (by omega) (by omega)) (va_cwF 0 C.2.2.2.2.1 (lw_app (lw_l4 q451 q455 q457 q80) (lw_meth q459)) rfl rfl rfl C.2.2.2.2.2.1.2.2.2.2.2.1 okF_hasNext ⟨(Nat.le_of_ble_eq_true rfl), (Nat.le_of_ble_eq_true rfl)⟩) hT rfl (Nat.le_of_ble_eq_true rfl) dX1_edgesOf_13 ⟨(Nat.le_of_ble_eq_true rfl), (Nat.le_of_ble_eq_true rfl)⟩ (fun r_13 h_13 n_13 hp_13 hn_13 => ?_)
      obtain ⟨rfl, rfl, rfl⟩ := hp_13
      refine g_if_eqB (tgt := 65) C dX1_edgesOf_18 (by decide) (fun c_18 => ?_) (fun c_18 => ?_)
      · refine g_iload_n C dX1_edgesOf_65 rfl 3 rfl ?_
        exact g_iret C hr hlk dX1_edgesOf_66 (Nat.le_of_ble_eq_true rfl) (Nat.le_of_ble_eq_true rfl) rfl ⟨_, rfl, ⟨by rw [show i = m_ed c r by have := of_decide_eq_false c_18; omega], fr, hn1⟩⟩
      · have hi := of_decide_eq_true c_18
        refine g_aload C dX1_edgesOf_21 4 rfl ?_
        refine g_F0R C (met_J11_next hT hb0 L2k.1 L2k.2.1 hi L2k.2.2.1 L2k.2.2.2.1 (G2 i hi)) (va_cwF 0 C.2.2.2.2.1 (lw_app (lw_l4 q461 q464 q466 q80) (lw_meth q468)) rfl rfl rfl C.2.2.2.2.2.1.2.2.2.2.2.2.1 okF_next ⟨(Nat.le_of_ble_eq_true rfl), (Nat.le_of_ble_eq_true rfl)⟩) hT rfl (Nat.le_of_ble_eq_true rfl) dX1_edgesOf_23 ⟨(Nat.le_of_ble_eq_true rfl), (Nat.le_of_ble_eq_true rfl)⟩ (fun r_23 h_23 n_23 hp_23 hn_23 => ?_)
        obtain ⟨rfl, rfl, rfl⟩ := hp_23
        refine g_opq (fun h2 e2 o2 => ?_)
        have fr2 : ∀ q, q < n → h2 q = h q := fun q hq => (o2 q (by omega)).trans (fr q hq)
        have B2 : LbAt D b0 h2 Z ad s c r := B.kept (fun j hj => fr2 _ (B.lt hno hj))
        refine g_castS C q320 (B2.ed i hi) rfl dX1_edgesOf_28 ?_
        refine g_astore (lv' := [(5, _), (0, _), (1, _), (2, _), (3, _), (4, _)]) C dX1_edgesOf_31 (by decide) rfl ?_
        refine g_iload_n C dX1_edgesOf_33 rfl 4 rfl ?_
        refine g_aload C dX1_edgesOf_34 0 rfl ?_
        refine g_iload_n C dX1_edgesOf_36 rfl 2 rfl ?_
        refine g_V1I C (met_X3_has (B2.ed i hi)) (cwV 1 C.2.2.2.2.1 (lw_V q533 q534 q535 q78 q536) rfl rfl rfl ok_X3_has ⟨(Nat.le_of_ble_eq_true rfl), (Nat.le_of_ble_eq_true rfl)⟩) (B2.ed i hi) rfl (Nat.le_of_ble_eq_true rfl) dX1_edgesOf_37 ⟨(Nat.le_of_ble_eq_true rfl), (Nat.le_of_ble_eq_true rfl)⟩ (fun r_37 h_37 n_37 hp_37 hn_37 => ?_)
        obtain ⟨rfl, rfl, rfl⟩ := hp_37
        refine g_if_eqB (tgt := 59) C dX1_edgesOf_40 (by decide) (fun c_40 => ?_) (fun c_40 => ?_)
        · change incE c r x i = _ at c_40
          refine g_iconst C dX1_edgesOf_59 kc_0 ?_
          refine g_iaddN C dX1_edgesOf_60 ?_
          refine g_istore_n (lv' := [(3, _), (5, _), (0, _), (1, _), (2, _), (4, _)]) C dX1_edgesOf_61 rfl (by decide) rfl ?_
          refine g_goto (tgt := 11) C dX1_edgesOf_62 (by decide) ?_
          refine g_pick (lv' := [(0, _), (1, _), (2, _), (3, _), (4, _)]) [2, 3, 4, 0, 5] rfl ?_
          refine g_eq (lv' := [(0, .ref (ad 0)), (1, .int x), (2, .int (bI ag)), (3, .int (nI (cnt (efE s c r x ag) (i + 1)))), (4, .ref n)]) rfl (by rw [cnt_n (by show (incE c r x i && _) = false; rw [c_40]; rfl)]) rfl ?_
          exact ih (i + 1) h2 n1 (nI i) (by omega) (by omega) e2 fr2 hn1
        · change incE c r x i = _ at c_40
          refine g_iload_n C dX1_edgesOf_43 rfl 3 rfl ?_
          refine g_if_eqB (tgt := 55) C dX1_edgesOf_44 (by decide) (fun c_44 => ?_) (fun c_44 => ?_)
          · refine g_iconst C dX1_edgesOf_55 kc_1 ?_
            refine g_goto (tgt := 60) C dX1_edgesOf_56 (by decide) ?_
            refine g_iaddN C dX1_edgesOf_60 ?_
            refine g_istore_n (lv' := [(3, _), (5, _), (0, _), (1, _), (2, _), (4, _)]) C dX1_edgesOf_61 rfl (by decide) rfl ?_
            refine g_goto (tgt := 11) C dX1_edgesOf_62 (by decide) ?_
            refine g_pick (lv' := [(0, _), (1, _), (2, _), (3, _), (4, _)]) [2, 3, 4, 0, 5] rfl ?_
            refine g_eq (lv' := [(0, .ref (ad 0)), (1, .int x), (2, .int (bI ag)), (3, .int (nI (cnt (efE s c r x ag) (i + 1)))), (4, .ref n)]) rfl (by rw [cnt_s (by show (incE c r x i && (!ag || _)) = true; rw [c_40, c_44]; rfl)]) rfl ?_
            exact ih (i + 1) h2 n1 (nI i) (by omega) (by omega) e2 fr2 hn1
          · refine g_aload C dX1_edgesOf_47 0 rfl ?_
            refine g_getN C in_X3 (B2.ed i hi) rfl 3 (by decide) q334 (fun _ hx => hx) rfl dX1_edgesOf_49 ?_
            refine g_if_eq (tgt := 59) C dX1_edgesOf_52 (by decide) (fun c_52 => ?_) (fun c_52 => ?_)
            · rw [Gg.n (by omega)] at c_52
              refine g_iconst C dX1_edgesOf_59 kc_0 ?_
              refine g_iaddN C dX1_edgesOf_60 ?_
              refine g_istore_n (lv' := [(3, _), (5, _), (0, _), (1, _), (2, _), (4, _)]) C dX1_edgesOf_61 rfl (by decide) rfl ?_
              refine g_goto (tgt := 11) C dX1_edgesOf_62 (by decide) ?_
              refine g_pick (lv' := [(0, _), (1, _), (2, _), (3, _), (4, _)]) [2, 3, 4, 0, 5] rfl ?_
              refine g_eq (lv' := [(0, .ref (ad 0)), (1, .int x), (2, .int (bI ag)), (3, .int (nI (cnt (efE s c r x ag) (i + 1)))), (4, .ref n)]) rfl (by rw [cnt_n (by show (incE c r x i && (!ag || decide (s (4 + i) = 1))) = false; rw [c_40, c_44, decide_eq_false c_52]; rfl)]) rfl ?_
              exact ih (i + 1) h2 n1 (nI i) (by omega) (by omega) e2 fr2 hn1
            · rw [Gg.n (by omega)] at c_52
              refine g_iconst C dX1_edgesOf_55 kc_1 ?_
              refine g_goto (tgt := 60) C dX1_edgesOf_56 (by decide) ?_
              refine g_iaddN C dX1_edgesOf_60 ?_
              refine g_istore_n (lv' := [(3, _), (5, _), (0, _), (1, _), (2, _), (4, _)]) C dX1_edgesOf_61 rfl (by decide) rfl ?_
              refine g_goto (tgt := 11) C dX1_edgesOf_62 (by decide) ?_
              refine g_pick (lv' := [(0, _), (1, _), (2, _), (3, _), (4, _)]) [2, 3, 4, 0, 5] rfl ?_
              refine g_eq (lv' := [(0, .ref (ad 0)), (1, .int x), (2, .int (bI ag)), (3, .int (nI (cnt (efE s c r x ag) (i + 1)))), (4, .ref n)]) rfl (by rw [cnt_s (by show (incE c r x i && (!ag || decide (s (4 + i) = 1))) = true; rw [c_40, decide_eq_true (Decidable.not_not.mp c_52)]; simp)]) rfl ?_
              exact ih (i + 1) h2 n1 (nI i) (by omega) (by omega) e2 fr2 hn1
  refine g_pick (lv' := [(0, _), (1, _), (2, _), (3, _), (4, _)]) [2, 3, 4, 1, 0] rfl ?_
  exact loop (m_ed c r + 1) 0 _ (n + 1) (-1) (by omega) (by omega) (va_up_self _ _ _) (fun q hq => va_up_ne _ _ (by omega)) (by omega)
theorem ok_X1_isGuarded : yX1_isGuarded.cls = "MapSheets$Library" ∧ yX1_isGuarded.cls ≠ "java/lang/invoke/MethodHandle" ∧ yX1_isGuarded.cls ≠ "java/lang/invoke/VarHandle" ∧ (parseMethodDescriptor yX1_isGuarded.desc).map (fun d => d.parameters.length) = some 1 := by decide +kernel
set_option maxHeartbeats 4000000 in
set_option maxRecDepth 100000 in
theorem met_X1_isGuarded {l : Launch} {D : va_G} {b0 n : Nat} {h : GH} {Z : Nat → Prop} {ad : Nat → Nat} {s : Nat → Int32} {c r : Nat} {x : Int32} (B : LbAt D b0 h Z ad s c r) (I : MI s c r) (V : MV s) (Gg : MG s) (z0 : h (D.1 201) = gP D 102 0 (fun _ => none)) : gMet l yX1_isGuarded cX1_isGuarded 5 ((some .boolean)) 7 154 721 1984 D b0 h n [.ref (ad 0), .int x] (pI (fun r' h' n' => bI (allb (gdE s c r x) (m_ed c r)) = r' ∧ (∀ q, q < n → h' q = h q) ∧ n < n')) := by
  refine gMet.of (lv := [(0, _), (1, _)]) (by decide) (Nat.le_of_ble_eq_true rfl) rfl ?_
  intro p_ e_ U0 m_ args_ below_ meth_ co_ C hr hlk hnm
  have hI := m_ed_le I
  obtain ⟨I0, I1, I2, I3, I4, I5⟩ := id I
  obtain ⟨cp2, mm2, F2, L2, G2⟩ := B.l2
  refine g_none (fun hno => ?_)
  refine g_size C (fun hb0 => ?_)
  refine g_lt z0 (fun hlz => ?_)
  refine g_iconst C dX1_isGuarded_0 kc_1 ?_
  refine g_topi (y := bI (true)) rfl ?_
  refine g_istore_n (lv' := [(2, _), (0, _), (1, _)]) C dX1_isGuarded_1 rfl (by decide) rfl ?_
  refine g_aload_n C dX1_isGuarded_2 rfl 1 rfl ?_
  refine g_get C in_X1 B.obj rfl 3 (by decide) q145 (fun _ hx => hx) rfl dX1_isGuarded_3 ?_
  refine g_V0R C (met_J2_iterator L2.1) (cwV 0 C.2.2.2.2.1 (lw_V q427 q428 q429 q67 q430) rfl rfl rfl ok_J2_iterator ⟨(Nat.le_of_ble_eq_true rfl), (Nat.le_of_ble_eq_true rfl)⟩) L2.1 rfl (Nat.le_of_ble_eq_true rfl) dX1_isGuarded_6 ⟨(by show _ ≤ 721; omega), (by show _ ≤ 1984; omega)⟩ (fun r_6 h_6 n_6 hp_6 hn_6 => ?_)
  obtain ⟨rfl, rfl, rfl⟩ := hp_6
  refine g_astore_n (lv' := [(3, _), (2, _), (0, _), (1, _)]) C dX1_isGuarded_9 rfl (by decide) rfl ?_
  have loop : ∀ (N_ i : Nat) (h1 : GH) (n1 : Nat) (lr : Int32), i ≤ m_ed c r → m_ed c r < i + N_ → h1 n = gO 11 [.int (nI i), .int lr, .int mm2, .ref (ad 2)] → (∀ q, q < n → h1 q = h q) → n < n1 → gW p_ l e_ (headSpec (ws_ yX1_isGuarded cX1_isGuarded 5 ((some .boolean))) (gRm 7 154 721 1984)).room U0 m_ args_ below_ meth_ co_ (MQ below_ (gQc D b0 (pI (fun r' h' n' => bI (allb (gdE s c r x) (m_ed c r)) = r' ∧ (∀ q, q < n → h' q = h q) ∧ n < n'))) args_ U0 721 1984 (gA b0)) D b0 5 h1 n1 (1 + 12 * i) (4 + 33 * i) 10 [(0, .ref (ad 0)), (1, .int x), (2, .int (bI (allb (gdE s c r x) i))), (3, .ref n)] [] := by
    intro N_
    induction N_ with
    | zero => intro i h1 n1 lr h1_ h2_; exact absurd h2_ (by omega)
    | succ N_ ih =>
      intro i h1 n1 lr h1_ h2_ hT fr hn1
      refine g_none (fun hno1 => ?_)
      refine g_size C (fun hb1 => ?_)
      have L2k : LiAt D b0 h1 (ad 2) (ad 5) cp2 (m_ed c r) mm2 F2 := L2.kept (fr _ (B.lt hno (Or.inl (by omega)))) (fr _ (B.lt hno (Or.inl (by omega))))
      refine g_aload_n C dX1_isGuarded_10 rfl 3 rfl ?_
      refine g_F0I C (met_J11_hasNext hT L2k.1 (by omega) (by omega)) (va_cwF 0 C.2.2.2.2.1 (lw_app (lw_l4 q451 q455 q457 q80) (lw_meth q459)) rfl rfl rfl C.2.2.2.2.2.1.2.2.2.2.2.1 okF_hasNext ⟨(Nat.le_of_ble_eq_true rfl), (Nat.le_of_ble_eq_true rfl)⟩) hT rfl (Nat.le_of_ble_eq_true rfl) dX1_isGuarded_11 ⟨(by show _ ≤ 721; omega), (by show _ ≤ 1984; omega)⟩ (fun r_11 h_11 n_11 hp_11 hn_11 => ?_)
      obtain ⟨rfl, rfl, rfl⟩ := hp_11
      refine g_if_eqB (tgt := 67) C dX1_isGuarded_16 (by decide) (fun c_16 => ?_) (fun c_16 => ?_)
      · refine g_iload_n C dX1_isGuarded_67 rfl 2 rfl ?_
        exact g_iret C hr hlk dX1_isGuarded_68 (by omega) (by omega) (bI_nar _) ⟨_, rfl, ⟨by rw [show i = m_ed c r by have := of_decide_eq_false c_16; omega], fr, hn1⟩⟩
      · have hi := of_decide_eq_true c_16
        refine g_aload_n C dX1_isGuarded_19 rfl 3 rfl ?_
        refine g_F0R C (met_J11_next hT hb0 L2k.1 L2k.2.1 hi L2k.2.2.1 L2k.2.2.2.1 (G2 i hi)) (va_cwF 0 C.2.2.2.2.1 (lw_app (lw_l4 q461 q464 q466 q80) (lw_meth q468)) rfl rfl rfl C.2.2.2.2.2.1.2.2.2.2.2.2.1 okF_next ⟨(Nat.le_of_ble_eq_true rfl), (Nat.le_of_ble_eq_true rfl)⟩) hT rfl (Nat.le_of_ble_eq_true rfl) dX1_isGuarded_20 ⟨(by show _ ≤ 721; omega), (by show _ ≤ 1984; omega)⟩ (fun r_20 h_20 n_20 hp_20 hn_20 => ?_)
        obtain ⟨rfl, rfl, rfl⟩ := hp_20
        refine g_opq (fun h2 e2 o2 => ?_)
        have fr2 : ∀ q, q < n → h2 q = h q := fun q hq => (o2 q (by omega)).trans (fr q hq)
        have B2 : LbAt D b0 h2 Z ad s c r := B.kept (fun j hj => fr2 _ (B.lt hno hj))
        have z2 : h2 (D.1 201) = gP D 102 0 (fun _ => none) := (fr2 _ hlz).trans z0
        refine g_castS C q320 (B2.ed i hi) rfl dX1_isGuarded_25 ?_
        refine g_astore (lv' := [(4, _), (0, _), (1, _), (2, _), (3, _)]) C dX1_isGuarded_28 (by decide) rfl ?_
        refine g_iload_n C dX1_isGuarded_30 rfl 3 rfl ?_
        refine g_aload C dX1_isGuarded_31 0 rfl ?_
        refine g_iload_n C dX1_isGuarded_33 rfl 2 rfl ?_
        refine g_V1I C (met_X3_has (B2.ed i hi)) (cwV 1 C.2.2.2.2.1 (lw_V q533 q534 q535 q78 q536) rfl rfl rfl ok_X3_has ⟨(Nat.le_of_ble_eq_true rfl), (Nat.le_of_ble_eq_true rfl)⟩) (B2.ed i hi) rfl (Nat.le_of_ble_eq_true rfl) dX1_isGuarded_34 ⟨(by show _ ≤ 721; omega), (by show _ ≤ 1984; omega)⟩ (fun r_34 h_34 n_34 hp_34 hn_34 => ?_)
        obtain ⟨rfl, rfl, rfl⟩ := hp_34
        refine g_if_eqB (tgt := 57) C dX1_isGuarded_37 (by decide) (fun c_37 => ?_) (fun c_37 => ?_)
        · change incE c r x i = _ at c_37
          refine g_iconst C dX1_isGuarded_57 kc_1 ?_
          refine g_goto (tgt := 62) C dX1_isGuarded_58 (by decide) ?_
          refine g_topi (y := bI (true)) rfl ?_
          refine g_iand C dX1_isGuarded_62 ?_
          refine g_istore_n (lv' := [(2, _), (4, _), (0, _), (1, _), (3, _)]) C dX1_isGuarded_63 rfl (by decide) rfl ?_
          refine g_goto (tgt := 10) C dX1_isGuarded_64 (by decide) ?_
          refine g_pick (lv' := [(0, _), (1, _), (2, _), (3, _)]) [2, 3, 0, 4] rfl ?_
          have hg9 : gdE s c r x i = true := by show (!incE c r x i || (!decide (s (4 + i) = 1) || decide (m_qn s c r i = 0))) = true; rw [c_37]; rfl
          refine g_eq (lv' := [(0, .ref (ad 0)), (1, .int x), (2, .int (bI (allb (gdE s c r x) (i + 1)))), (3, .ref n)]) rfl (by rw [bI_and]; show _ = [_, _, (_, Value.int (bI (allb (gdE s c r x) i && gdE s c r x i))), _]; rw [hg9]) rfl ?_
          refine g_widen (k1 := 1 + 12 * (i + 1)) (k2 := 4 + 33 * (i + 1)) (by omega) (by omega) ?_
          exact ih (i + 1) h2 n1 (nI i) (by omega) (by omega) e2 fr2 hn1
        · change incE c r x i = _ at c_37
          refine g_aload C dX1_isGuarded_40 0 rfl ?_
          refine g_getN C in_X3 (B2.ed i hi) rfl 3 (by decide) q334 (fun _ hx => hx) rfl dX1_isGuarded_42 ?_
          refine g_if_eq (tgt := 57) C dX1_isGuarded_45 (by decide) (fun c_45 => ?_) (fun c_45 => ?_)
          · rw [Gg.n (by omega)] at c_45
            refine g_iconst C dX1_isGuarded_57 kc_1 ?_
            refine g_goto (tgt := 62) C dX1_isGuarded_58 (by decide) ?_
            refine g_topi (y := bI (true)) rfl ?_
            refine g_iand C dX1_isGuarded_62 ?_
            refine g_istore_n (lv' := [(2, _), (4, _), (0, _), (1, _), (3, _)]) C dX1_isGuarded_63 rfl (by decide) rfl ?_
            refine g_goto (tgt := 10) C dX1_isGuarded_64 (by decide) ?_
            refine g_pick (lv' := [(0, _), (1, _), (2, _), (3, _)]) [2, 3, 0, 4] rfl ?_
            have hg9 : gdE s c r x i = true := by show (!incE c r x i || (!decide (s (4 + i) = 1) || decide (m_qn s c r i = 0))) = true; rw [decide_eq_false c_45]; simp
            refine g_eq (lv' := [(0, .ref (ad 0)), (1, .int x), (2, .int (bI (allb (gdE s c r x) (i + 1)))), (3, .ref n)]) rfl (by rw [bI_and]; show _ = [_, _, (_, Value.int (bI (allb (gdE s c r x) i && gdE s c r x i))), _]; rw [hg9]) rfl ?_
            refine g_widen (k1 := 1 + 12 * (i + 1)) (k2 := 4 + 33 * (i + 1)) (by omega) (by omega) ?_
            exact ih (i + 1) h2 n1 (nI i) (by omega) (by omega) e2 fr2 hn1
          · rw [Gg.n (by omega)] at c_45
            refine g_aload_n C dX1_isGuarded_48 rfl 1 rfl ?_
            refine g_aload C dX1_isGuarded_49 0 rfl ?_
            refine g_V1I C (met_X1_isClean B2 I V z2 hi) (cwV 1 C.2.2.2.2.1 (lw_V q537 q538 q539 q64 q540) rfl rfl rfl ok_X1_isClean ⟨(Nat.le_of_ble_eq_true rfl), (Nat.le_of_ble_eq_true rfl)⟩) B2.obj rfl (Nat.le_of_ble_eq_true rfl) dX1_isGuarded_51 ⟨(by show _ ≤ 721; omega), (by show _ ≤ 1984; omega)⟩ (fun r_51 h_51 n_51 hp_51 hn_51 => ?_)
            obtain ⟨rfl, fr_51, hl_51⟩ := hp_51
            refine g_if_eqB (tgt := 61) C dX1_isGuarded_54 (by decide) (fun c_54 => ?_) (fun c_54 => ?_)
            · refine g_iconst C dX1_isGuarded_61 kc_0 ?_
              refine g_topi (y := bI (false)) rfl ?_
              refine g_iand C dX1_isGuarded_62 ?_
              refine g_istore_n (lv' := [(2, _), (4, _), (0, _), (1, _), (3, _)]) C dX1_isGuarded_63 rfl (by decide) rfl ?_
              refine g_goto (tgt := 10) C dX1_isGuarded_64 (by decide) ?_
              refine g_pick (lv' := [(0, _), (1, _), (2, _), (3, _)]) [2, 3, 0, 4] rfl ?_
              have hg9 : gdE s c r x i = false := by show (!incE c r x i || (!decide (s (4 + i) = 1) || decide (m_qn s c r i = 0))) = false; rw [c_37, c_54, decide_eq_true (Decidable.not_not.mp c_45)]; rfl
              refine g_eq (lv' := [(0, .ref (ad 0)), (1, .int x), (2, .int (bI (allb (gdE s c r x) (i + 1)))), (3, .ref n)]) rfl (by rw [bI_and]; show _ = [_, _, (_, Value.int (bI (allb (gdE s c r x) i && gdE s c r x i))), _]; rw [hg9]) rfl ?_
              refine g_widen (k1 := 1 + 12 * (i + 1)) (k2 := 4 + 33 * (i + 1)) (by omega) (by omega) ?_
              exact ih (i + 1) h_51 n_51 (nI i) (by omega) (by omega) ((fr_51 _ (by omega)).trans e2) (fun q hq => (fr_51 q (by omega)).trans (fr2 q hq)) (by omega)
            · refine g_iconst C dX1_isGuarded_57 kc_1 ?_
              refine g_goto (tgt := 62) C dX1_isGuarded_58 (by decide) ?_
              refine g_topi (y := bI (true)) rfl ?_
              refine g_iand C dX1_isGuarded_62 ?_
              refine g_istore_n (lv' := [(2, _), (4, _), (0, _), (1, _), (3, _)]) C dX1_isGuarded_63 rfl (by decide) rfl ?_
              refine g_goto (tgt := 10) C dX1_isGuarded_64 (by decide) ?_
              refine g_pick (lv' := [(0, _), (1, _), (2, _), (3, _)]) [2, 3, 0, 4] rfl ?_
              have hg9 : gdE s c r x i = true := by show (!incE c r x i || (!decide (s (4 + i) = 1) || decide (m_qn s c r i = 0))) = true; rw [c_54]; simp
              refine g_eq (lv' := [(0, .ref (ad 0)), (1, .int x), (2, .int (bI (allb (gdE s c r x) (i + 1)))), (3, .ref n)]) rfl (by rw [bI_and]; show _ = [_, _, (_, Value.int (bI (allb (gdE s c r x) i && gdE s c r x i))), _]; rw [hg9]) rfl ?_
              refine g_widen (k1 := 1 + 12 * (i + 1)) (k2 := 4 + 33 * (i + 1)) (by omega) (by omega) ?_
              exact ih (i + 1) h_51 n_51 (nI i) (by omega) (by omega) ((fr_51 _ (by omega)).trans e2) (fun q hq => (fr_51 q (by omega)).trans (fr2 q hq)) (by omega)
  refine g_pick (lv' := [(0, _), (1, _), (2, _), (3, _)]) [2, 3, 1, 0] rfl ?_
  exact loop (m_ed c r + 1) 0 _ (n + 1) (-1) (by omega) (by omega) (va_up_self _ _ _) (fun q hq => va_up_ne _ _ (by omega)) (by omega)
