theorem ok_X1_sheet : yX1_sheet.cls = "MapSheets$Library" ∧ yX1_sheet.cls ≠ "java/lang/invoke/MethodHandle" ∧ yX1_sheet.cls ≠ "java/lang/invoke/VarHandle" ∧ (parseMethodDescriptor yX1_sheet.desc).map (fun d => d.parameters.length) = some 1 := by decide +kernel
set_option maxHeartbeats 4000000 in
set_option maxRecDepth 100000 in
theorem met_X1_sheet {l : Launch} {D : va_G} {b0 n : Nat} {h : GH} {Z : Nat → Prop} {ad : Nat → Nat} {s : Nat → Int32} {c r : Nat} {k : Nat} (B : LbAt D b0 h Z ad s c r) (I : MI s c r) (hk : k < c * r) : gMet l yX1_sheet cX1_sheet 2 ((some (.object "MapSheets$Sheet"))) 3 64 0 0 D b0 h n [.ref (ad 0), .int (nI k)] (pR (fun r' h' n' => aS ad k 0 = r' ∧ h = h' ∧ n = n')) := by
  refine gMet.of (lv := [(0, _), (1, _)]) (by decide) (Nat.le_of_ble_eq_true rfl) rfl ?_
  intro p_ e_ U0 m_ args_ below_ meth_ co_ C hr hlk hnm
  have hI := m_ed_le I
  obtain ⟨I0, I1, I2, I3, I4, I5⟩ := id I
  obtain ⟨cp1, mm1, F1, L1, G1⟩ := B.l1
  refine g_aload_n C dX1_sheet_0 rfl 0 rfl ?_
  refine g_get C in_X1 B.obj rfl 2 (by decide) q143 (fun _ hx => hx) rfl dX1_sheet_1 ?_
  refine g_iload_n C dX1_sheet_4 rfl 1 rfl ?_
  refine g_V1R C (met_J2_get L1.1 L1.2.1 hk L1.2.2.1 L1.2.2.2.1 (G1 k hk)) (cwV 1 C.2.2.2.2.1 (lw_V q486 q487 q488 q67 q489) rfl rfl rfl ok_J2_get ⟨(Nat.le_of_ble_eq_true rfl), (Nat.le_of_ble_eq_true rfl)⟩) L1.1 rfl (Nat.le_of_ble_eq_true rfl) dX1_sheet_5 ⟨(Nat.le_of_ble_eq_true rfl), (Nat.le_of_ble_eq_true rfl)⟩ (fun r_5 h_5 n_5 hp_5 hn_5 => ?_)
  obtain ⟨rfl, rfl, rfl⟩ := hp_5
  refine g_castS C q219 (B.sh k hk).obj rfl dX1_sheet_8 ?_
  exact g_aret C hr hlk dX1_sheet_11 (Or.inl ⟨_, rfl⟩) (Or.inr ⟨_, rfl⟩) (Nat.le_of_ble_eq_true rfl) (Nat.le_of_ble_eq_true rfl) ⟨_, rfl, ⟨rfl, rfl, rfl⟩⟩
theorem ok_X1_meant : yX1_meant.cls = "MapSheets$Library" ∧ yX1_meant.cls ≠ "java/lang/invoke/MethodHandle" ∧ yX1_meant.cls ≠ "java/lang/invoke/VarHandle" ∧ (parseMethodDescriptor yX1_meant.desc).map (fun d => d.parameters.length) = some 3 := by decide +kernel
set_option maxHeartbeats 4000000 in
set_option maxRecDepth 100000 in
theorem met_X1_meant {l : Launch} {D : va_G} {b0 n : Nat} {h : GH} {Z : Nat → Prop} {ad : Nat → Nat} {s : Nat → Int32} {c r : Nat} {e k p : Nat} (B : LbAt D b0 h Z ad s c r) (I : MI s c r) (V : MV s) (he : e < m_ed c r) (hk : k < c * r) (hp : p < 10) : gMet l yX1_meant cX1_meant 4 ((some .int)) 4 85 0 0 D b0 h n [.ref (ad 0), .ref (ad (6 + e)), .int (nI k), .int (nI p)] (pI (fun r' h' n' => xm (m_mean s k (eS c r e k) p) = r' ∧ h = h' ∧ n = n')) := by
  refine gMet.of (lv := [(0, _), (1, _), (2, _), (3, _)]) (by decide) (Nat.le_of_ble_eq_true rfl) rfl ?_
  intro p_ e_ U0 m_ args_ below_ meth_ co_ C hr hlk hnm
  have hI := m_ed_le I
  obtain ⟨I0, I1, I2, I3, I4, I5⟩ := id I
  have hfs := m_fs_lt I he
  have hsd := m_sd_lt c r e
  refine g_aload_n C dX1_meant_0 rfl 0 rfl ?_
  refine g_iload_n C dX1_meant_1 rfl 2 rfl ?_
  refine g_V1R C (met_X1_sheet B I (by omega)) (cwV 1 C.2.2.2.2.1 (lw_V q549 q522 q523 q64 q524) rfl rfl rfl ok_X1_sheet ⟨(Nat.le_of_ble_eq_true rfl), (Nat.le_of_ble_eq_true rfl)⟩) B.obj rfl (Nat.le_of_ble_eq_true rfl) dX1_meant_2 ⟨(Nat.le_of_ble_eq_true rfl), (Nat.le_of_ble_eq_true rfl)⟩ (fun r_2 h_2 n_2 hp_2 hn_2 => ?_)
  obtain ⟨rfl, rfl, rfl⟩ := hp_2
  refine g_aload_n C dX1_meant_5 rfl 1 rfl ?_
  refine g_iload_n C dX1_meant_6 rfl 2 rfl ?_
  refine g_V1I C (met_X3_sideOf (B.ed e he) (by omega) (by omega) (by omega)) (cwV 1 C.2.2.2.2.1 (lw_V q550 q551 q552 q78 q553) rfl rfl rfl ok_X3_sideOf ⟨(Nat.le_of_ble_eq_true rfl), (Nat.le_of_ble_eq_true rfl)⟩) (B.ed e he) rfl (Nat.le_of_ble_eq_true rfl) dX1_meant_7 ⟨(Nat.le_of_ble_eq_true rfl), (Nat.le_of_ble_eq_true rfl)⟩ (fun r_7 h_7 n_7 hp_7 hn_7 => ?_)
  obtain ⟨rfl, rfl, rfl⟩ := hp_7
  refine g_iload_n C dX1_meant_10 rfl 3 rfl ?_
  refine g_V2I C (met_X2_meant (B.sh k hk) V (by omega) (eS_lt c r e k) hp) (cwV 2 C.2.2.2.2.1 (lw_V q554 q555 q556 q73 q557) rfl rfl rfl ok_X2_meant ⟨(Nat.le_of_ble_eq_true rfl), (Nat.le_of_ble_eq_true rfl)⟩) (B.sh k hk).obj rfl (Nat.le_of_ble_eq_true rfl) dX1_meant_11 ⟨(Nat.le_of_ble_eq_true rfl), (Nat.le_of_ble_eq_true rfl)⟩ (fun r_11 h_11 n_11 hp_11 hn_11 => ?_)
  obtain ⟨rfl, rfl, rfl⟩ := hp_11
  exact g_iret C hr hlk dX1_meant_14 (Nat.le_of_ble_eq_true rfl) (Nat.le_of_ble_eq_true rfl) rfl ⟨_, rfl, ⟨rfl, rfl, rfl⟩⟩
theorem ok_X1_quarrels : yX1_quarrels.cls = "MapSheets$Library" ∧ yX1_quarrels.cls ≠ "java/lang/invoke/MethodHandle" ∧ yX1_quarrels.cls ≠ "java/lang/invoke/VarHandle" ∧ (parseMethodDescriptor yX1_quarrels.desc).map (fun d => d.parameters.length) = some 1 := by decide +kernel
set_option maxHeartbeats 4000000 in
set_option maxRecDepth 100000 in
theorem met_X1_quarrels {l : Launch} {D : va_G} {b0 n : Nat} {h : GH} {Z : Nat → Prop} {ad : Nat → Nat} {s : Nat → Int32} {c r : Nat} {e : Nat} (B : LbAt D b0 h Z ad s c r) (I : MI s c r) (V : MV s) (z0 : h (D.1 201) = gP D 102 0 (fun _ => none)) (he : e < m_ed c r) : gMet l yX1_quarrels cX1_quarrels 6 ((some (.object "java/util/ArrayList"))) 5 108 12 33 D b0 h n [.ref (ad 0), .ref (ad (6 + e))] (pR (fun r' h' n' => n = r' ∧ (∃ arr cap m F, LiAt D b0 h' n arr cap (m_qn s c r e) m F ∧ QlAt h' s c r e 10 F) ∧ (∀ q, q < n → h' q = h q) ∧ n < n')) := by
  refine gMet.of (lv := [(0, _), (1, _)]) (by decide) (Nat.le_of_ble_eq_true rfl) rfl ?_
  intro p_ e_ U0 m_ args_ below_ meth_ co_ C hr hlk hnm
  have hI := m_ed_le I
  obtain ⟨I0, I1, I2, I3, I4, I5⟩ := id I
  have hfs := m_fs_lt I he
  have hsd := m_sd_lt c r e
  refine g_none (fun hno => ?_)
  refine g_size C (fun hb0 => ?_)
  have hz1 := z0
  refine g_lt z0 (fun hlz => ?_)
  refine g_new (ci := 7) (fs := [.int 0, .null, .int 0]) C in_J2 tyJ2 tyJ2_ok q110 q111 q67 rfl born_J2 (by show _ ≤ 12; omega) (by show _ ≤ 33; omega) dX1_quarrels_0 ?_
  refine g_opq (fun h0 e0 o0 => ?_)
  refine g_dup C dX1_quarrels_3 rfl ?_
  refine g_I0V C (met_J2_init e0 hb0) (cwI 0 C.2.2.2.2.1 (lw_meth q114) rfl rfl rfl (C.2.2.2.2.1 _ q67) (C.2.2.2.2.1 _ q112) (C.2.2.2.2.1 _ q113) rfl ok_J2_init ⟨(Nat.le_of_ble_eq_true rfl), (Nat.le_of_ble_eq_true rfl)⟩) (Nat.le_of_ble_eq_true rfl) dX1_quarrels_4 ⟨(by show _ ≤ 12; omega), (by show _ ≤ 33; omega)⟩ (fun h_4 n_4 hp_4 hn_4 => ?_)
  obtain ⟨rfl, rfl⟩ := hp_4
  have L0 : LiAt D b0 (va_up h0 n (gO 7 [.int (nI 0), .ref (D.1 201), .int (nI 0)])) n (D.1 201) 0 0 (nI 0) (fun _ => none) := ⟨va_up_self _ _ _, (va_up_ne _ _ (by omega)).trans ((o0 _ (by omega)).trans hz1), Nat.le_refl _, by omega, Or.inl ⟨rfl, rfl⟩⟩
  have fr0 : ∀ q, q < n → va_up h0 n (gO 7 [.int (nI 0), .ref (D.1 201), .int (nI 0)]) q = h q := fun q hq => (va_up_ne _ _ (by omega)).trans (o0 q (by omega))
  refine g_astore_n (lv' := [(2, _), (0, _), (1, _)]) C dX1_quarrels_7 rfl (by decide) rfl ?_
  refine g_iconst C dX1_quarrels_8 kc_0 ?_
  refine g_istore_n (lv' := [(3, _), (2, _), (0, _), (1, _)]) C dX1_quarrels_9 rfl (by decide) rfl ?_
  have loop : ∀ (N_ p : Nat) (h1 : GH) (n1 : Nat) (arr : Nat) (cap : Nat) (m : Int32) (F : Nat → Option Nat), p ≤ 10 → 10 < p + N_ → LiAt D b0 h1 n arr cap (cnt (qf s c r e) p) m F → (cap = 0 ∨ cap = 10 ∧ n ≤ arr) → QlAt h1 s c r e p F → (∀ q, q < n → h1 q = h q) → n < n1 → gW p_ l e_ (headSpec (ws_ yX1_quarrels cX1_quarrels 6 ((some (.object "java/util/ArrayList")))) (gRm 5 108 12 33)).room U0 m_ args_ below_ meth_ co_ (MQ below_ (gQc D b0 (pR (fun r' h' n' => n = r' ∧ (∃ arr cap m F, LiAt D b0 h' n arr cap (m_qn s c r e) m F ∧ QlAt h' s c r e 10 F) ∧ (∀ q, q < n → h' q = h q) ∧ n < n'))) args_ U0 12 33 (gA b0)) D b0 6 h1 n1 (1 + cap / 10 + cnt (qf s c r e) p) (3 + cap + 2 * cnt (qf s c r e) p) 10 [(0, .ref (ad 0)), (1, .ref (ad (6 + e))), (2, .ref n), (3, .int (nI p))] [] := by
    intro N_
    induction N_ with
    | zero => intro p h1 n1 arr cap m F h1_ h2_; exact absurd h2_ (by omega)
    | succ N_ ih =>
      intro p h1 n1 arr cap m F h1_ h2_ L hcap hQ fr hn1
      have hcl := cnt_le (qf s c r e) p
      refine g_none (fun hno1 => ?_)
      refine g_size C (fun hb1 => ?_)
      have B1 : LbAt D b0 h1 Z ad s c r := B.kept (fun i hi => fr _ (B.lt hno hi))
      have hlE := B.lt hno (i := 6 + e) (Or.inr (Or.inl (by omega)))
      refine g_iload_n C dX1_quarrels_10 rfl 3 rfl ?_
      refine g_bipush C dX1_quarrels_11 kb_10 ?_
      refine g_icmp_geN (tgt := 83) C dX1_quarrels_13 (by decide) (by omega) (by omega) (fun c_13 => ?_) (fun c_13 => ?_)
      · refine g_aload_n C dX1_quarrels_83 rfl 2 rfl ?_
        exact g_aret C hr hlk dX1_quarrels_84 (Or.inl ⟨_, rfl⟩) (Or.inr ⟨_, rfl⟩) (by omega) (by omega) ⟨_, rfl, ⟨rfl, ⟨arr, cap, m, F, by rw [show p = 10 by omega] at L; exact L, by rw [show p = 10 by omega] at hQ; exact hQ⟩, fr, hn1⟩⟩
      · refine g_aload_n C dX1_quarrels_16 rfl 0 rfl ?_
        refine g_aload_n C dX1_quarrels_17 rfl 1 rfl ?_
        refine g_aload_n C dX1_quarrels_18 rfl 1 rfl ?_
        refine g_getN C in_X3 (B1.ed e he) rfl 0 (by decide) q327 (fun _ hx => hx) rfl dX1_quarrels_19 ?_
        refine g_iload_n C dX1_quarrels_22 rfl 3 rfl ?_
        refine g_V3I C (met_X1_meant B1 I V he (by omega) (by omega)) (cwV 3 C.2.2.2.2.1 (lw_V q545 q546 q547 q64 q548) rfl rfl rfl ok_X1_meant ⟨(Nat.le_of_ble_eq_true rfl), (Nat.le_of_ble_eq_true rfl)⟩) B1.obj rfl (Nat.le_of_ble_eq_true rfl) dX1_quarrels_23 ⟨(by show _ ≤ 12; omega), (by show _ ≤ 33; omega)⟩ (fun r_23 h_23 n_23 hp_23 hn_23 => ?_)
        obtain ⟨rfl, rfl, rfl⟩ := hp_23
        refine g_istore (lv' := [(4, _), (0, _), (1, _), (2, _), (3, _)]) C dX1_quarrels_26 (by decide) rfl ?_
        refine g_aload_n C dX1_quarrels_28 rfl 1 rfl ?_
        refine g_aload_n C dX1_quarrels_29 rfl 2 rfl ?_
        refine g_aload_n C dX1_quarrels_30 rfl 2 rfl ?_
        refine g_getN C in_X3 (B1.ed e he) rfl 1 (by decide) q330 (fun _ hx => hx) rfl dX1_quarrels_31 ?_
        refine g_iload_n C dX1_quarrels_34 rfl 4 rfl ?_
        refine g_V3I C (met_X1_meant B1 I V he (by omega) (by omega)) (cwV 3 C.2.2.2.2.1 (lw_V q545 q546 q547 q64 q548) rfl rfl rfl ok_X1_meant ⟨(Nat.le_of_ble_eq_true rfl), (Nat.le_of_ble_eq_true rfl)⟩) B1.obj rfl (Nat.le_of_ble_eq_true rfl) dX1_quarrels_35 ⟨(by show _ ≤ 12; omega), (by show _ ≤ 33; omega)⟩ (fun r_35 h_35 n_35 hp_35 hn_35 => ?_)
        obtain ⟨rfl, rfl, rfl⟩ := hp_35
        refine g_istore (lv' := [(5, _), (4, _), (0, _), (1, _), (2, _), (3, _)]) C dX1_quarrels_38 (by decide) rfl ?_
        refine g_iload C dX1_quarrels_40 1 rfl ?_
        refine g_iload C dX1_quarrels_42 0 rfl ?_
        refine g_icmp_eq (tgt := 77) C dX1_quarrels_44 (by decide) (fun c_44 => ?_) (fun c_44 => ?_)
        · rw [eS_fst, eS_snd hfs.2.2, xm_inj (m_mean_le V (by omega) (by omega) (by omega)) (m_mean_le V (by omega) (by have := m_op_lt (m_sd c r e); omega) (by omega))] at c_44
          have hr0 : m_rs s c r e p = 0 := if_pos c_44
          have hcn : cnt (qf s c r e) (p + 1) = cnt (qf s c r e) p := cnt_n (decide_eq_false (by omega))
          refine g_iinc (lv' := [(3, _), (5, _), (4, _), (0, _), (1, _), (2, _)]) (t := 5) C dX1_quarrels_77 rfl (nI_1 _) (by decide) rfl ?_
          refine g_goto (tgt := 10) C dX1_quarrels_80 (by decide) ?_
          refine g_pick (lv' := [(0, _), (1, _), (2, _), (3, _)]) [3, 4, 5, 0] rfl ?_
          refine g_widen (k1 := 1 + cap / 10 + cnt (qf s c r e) (p + 1)) (k2 := 3 + cap + 2 * cnt (qf s c r e) (p + 1)) (by rw [hcn]; omega) (by rw [hcn]; omega) ?_
          exact ih (p + 1) h1 n1 arr cap m F (by omega) (by omega) (by rw [hcn]; exact L) hcap (hQ.skip hr0) fr hn1
        · rw [eS_fst, eS_snd hfs.2.2, xm_inj (m_mean_le V (by omega) (by omega) (by omega)) (m_mean_le V (by omega) (by have := m_op_lt (m_sd c r e); omega) (by omega))] at c_44
          have hr1 : 0 < m_rs s c r e p := by unfold m_rs m_fm m_sm; rw [if_neg c_44]; split <;> omega
          have hcs : cnt (qf s c r e) (p + 1) = cnt (qf s c r e) p + 1 := cnt_s (decide_eq_true hr1)
          refine g_aload_n C dX1_quarrels_47 rfl 4 rfl ?_
          refine g_new (ci := 5) (fs := [.int 0, .int 0]) C in_X5 tyX5 tyX5_ok q558 q559 q83 rfl born_X5 (by show _ ≤ 12; omega) (by show _ ≤ 33; omega) dX1_quarrels_48 ?_
          refine g_dup C dX1_quarrels_51 rfl ?_
          refine g_iload_n C dX1_quarrels_52 rfl 5 rfl ?_
          refine g_iload C dX1_quarrels_53 1 rfl ?_
          refine g_iconst C dX1_quarrels_55 kc_m1 ?_
          refine g_icmp_eq (tgt := 65) C dX1_quarrels_56 (by decide) (fun c_56 => ?_) (fun c_56 => ?_)
          · rw [eS_fst, xm_m1 (m_mean_le V (by omega) (by omega) (by omega))] at c_56
            have hrs : m_rs s c r e p = 1 := by unfold m_rs m_fm m_sm; rw [if_neg c_44, if_pos (Or.inl c_56)]
            refine g_iconst C dX1_quarrels_65 kc_1 ?_
            refine g_goto (tgt := 70) C dX1_quarrels_66 (by decide) ?_
            refine g_I2V C (met_X5_init (va_up_self _ _ _) hb1) (cwI 2 C.2.2.2.2.1 (lw_meth q562) rfl rfl rfl (C.2.2.2.2.1 _ q83) (C.2.2.2.2.1 _ q560) (C.2.2.2.2.1 _ q561) rfl ok_X5_init ⟨(Nat.le_of_ble_eq_true rfl), (Nat.le_of_ble_eq_true rfl)⟩) (Nat.le_of_ble_eq_true rfl) dX1_quarrels_70 ⟨(by show _ ≤ 12; omega), (by show _ ≤ 33; omega)⟩ (fun h_70 n_70 hp_70 hn_70 => ?_)
            obtain ⟨rfl, rfl⟩ := hp_70
            have hna : arr ≠ n1 := fun e9 => by have h9 := L.2.1; rw [e9, hno1 n1 (Nat.le_refl _)] at h9; cases h9
            rcases hcap with rfl | ⟨rfl, ha9⟩
            · refine g_V1I C (met_J2_add_E (L.kept ((va_up_ne _ _ (by omega)).trans (va_up_ne _ _ (by omega))) ((va_up_ne _ _ hna).trans (va_up_ne _ _ hna))) hb0 (gObj.of (va_up_self _ _ _) rfl q1482) (by omega)) (cwV 1 C.2.2.2.2.1 (lw_V q256 q257 q258 q67 q259) rfl rfl rfl ok_J2_add ⟨(Nat.le_of_ble_eq_true rfl), (Nat.le_of_ble_eq_true rfl)⟩) ((va_up_ne _ _ (by omega)).trans ((va_up_ne _ _ (by omega)).trans L.1)) rfl (Nat.le_of_ble_eq_true rfl) dX1_quarrels_73 ⟨(by show _ ≤ 12; omega), (by show _ ≤ 33; omega)⟩ (fun r_73 h_73 n_73 hp_73 hn_73 => ?_)
              refine g_pop C dX1_quarrels_76 rfl ?_
              refine g_iinc (lv' := [(3, _), (5, _), (4, _), (0, _), (1, _), (2, _)]) (t := 5) C dX1_quarrels_77 rfl (nI_1 _) (by decide) rfl ?_
              refine g_goto (tgt := 10) C dX1_quarrels_80 (by decide) ?_
              refine g_pick (lv' := [(0, _), (1, _), (2, _), (3, _)]) [3, 4, 5, 0] rfl ?_
              obtain ⟨rfl, F2, x1, x2, x3, rfl, x5⟩ := hp_73
              refine g_widen (k1 := 1 + 10 / 10 + cnt (qf s c r e) (p + 1)) (k2 := 3 + 10 + 2 * cnt (qf s c r e) (p + 1)) (by rw [hcs]; omega) (by rw [hcs]; omega) ?_
              exact ih (p + 1) h_73 (n1 + 1 + 1) (n1 + 1) 10 (m + 1) F2 (by omega) (by omega) (by rw [hcs]; exact x1) (Or.inr ⟨rfl, by omega⟩) (hQ.add hr1 x2 x3 ((x5 _ (by omega) (by omega)).trans ((va_up_self _ _ _).trans (by rw [hrs]))) (fun a x hx => (x5 a (fun e => by rw [e, L.1] at hx; cases hx) (fun e => by rw [e, hno1 (n1 + 1) (by omega)] at hx; cases hx)).trans ((va_up_ne _ _ (fun e => by rw [e, hno1 n1 (Nat.le_refl _)] at hx; cases hx)).trans (va_up_ne _ _ (fun e => by rw [e, hno1 n1 (Nat.le_refl _)] at hx; cases hx))))) (fun q hq => (x5 q (by omega) (by omega)).trans ((va_up_ne _ _ (by omega)).trans ((va_up_ne _ _ (by omega)).trans (fr q hq)))) (by omega)
            · refine g_V1I C (met_J2_add_R (L.kept ((va_up_ne _ _ (by omega)).trans (va_up_ne _ _ (by omega))) ((va_up_ne _ _ hna).trans (va_up_ne _ _ hna))) hb0 (gObj.of (va_up_self _ _ _) rfl q1482) (by omega)) (cwV 1 C.2.2.2.2.1 (lw_V q256 q257 q258 q67 q259) rfl rfl rfl ok_J2_add ⟨(Nat.le_of_ble_eq_true rfl), (Nat.le_of_ble_eq_true rfl)⟩) ((va_up_ne _ _ (by omega)).trans ((va_up_ne _ _ (by omega)).trans L.1)) rfl (Nat.le_of_ble_eq_true rfl) dX1_quarrels_73 ⟨(by show _ ≤ 12; omega), (by show _ ≤ 33; omega)⟩ (fun r_73 h_73 n_73 hp_73 hn_73 => ?_)
              refine g_pop C dX1_quarrels_76 rfl ?_
              refine g_iinc (lv' := [(3, _), (5, _), (4, _), (0, _), (1, _), (2, _)]) (t := 5) C dX1_quarrels_77 rfl (nI_1 _) (by decide) rfl ?_
              refine g_goto (tgt := 10) C dX1_quarrels_80 (by decide) ?_
              refine g_pick (lv' := [(0, _), (1, _), (2, _), (3, _)]) [3, 4, 5, 0] rfl ?_
              obtain ⟨rfl, F2, x1, x2, x3, rfl, x5⟩ := hp_73
              refine g_widen (k1 := 1 + 10 / 10 + cnt (qf s c r e) (p + 1)) (k2 := 3 + 10 + 2 * cnt (qf s c r e) (p + 1)) (by rw [hcs]; omega) (by rw [hcs]; omega) ?_
              exact ih (p + 1) h_73 (n1 + 1) arr 10 (m + 1) F2 (by omega) (by omega) (by rw [hcs]; exact x1) (Or.inr ⟨rfl, ha9⟩) (hQ.add hr1 x2 x3 ((x5 _ (by omega) (Ne.symm hna)).trans ((va_up_self _ _ _).trans (by rw [hrs]))) (fun a x hx => (x5 a (fun e => by rw [e, L.1] at hx; cases hx) (fun e => by rw [e, L.2.1] at hx; cases hx)).trans ((va_up_ne _ _ (fun e => by rw [e, hno1 n1 (Nat.le_refl _)] at hx; cases hx)).trans (va_up_ne _ _ (fun e => by rw [e, hno1 n1 (Nat.le_refl _)] at hx; cases hx))))) (fun q hq => (x5 q (by omega) (by omega)).trans ((va_up_ne _ _ (by omega)).trans ((va_up_ne _ _ (by omega)).trans (fr q hq)))) (by omega)
          · rw [eS_fst, xm_m1 (m_mean_le V (by omega) (by omega) (by omega))] at c_56
            refine g_iload C dX1_quarrels_59 0 rfl ?_
            refine g_iconst C dX1_quarrels_61 kc_m1 ?_
            refine g_icmp_ne (tgt := 69) C dX1_quarrels_62 (by decide) (fun c_62 => ?_) (fun c_62 => ?_)
            · rw [eS_snd hfs.2.2, xm_m1 (m_mean_le V (by omega) (by have := m_op_lt (m_sd c r e); omega) (by omega))] at c_62
              have hrs : m_rs s c r e p = 2 := by unfold m_rs m_fm m_sm; rw [if_neg c_44, if_neg (fun q => q.elim c_56 c_62)]
              refine g_iconst C dX1_quarrels_69 kc_2 ?_
              refine g_I2V C (met_X5_init (va_up_self _ _ _) hb1) (cwI 2 C.2.2.2.2.1 (lw_meth q562) rfl rfl rfl (C.2.2.2.2.1 _ q83) (C.2.2.2.2.1 _ q560) (C.2.2.2.2.1 _ q561) rfl ok_X5_init ⟨(Nat.le_of_ble_eq_true rfl), (Nat.le_of_ble_eq_true rfl)⟩) (Nat.le_of_ble_eq_true rfl) dX1_quarrels_70 ⟨(by show _ ≤ 12; omega), (by show _ ≤ 33; omega)⟩ (fun h_70 n_70 hp_70 hn_70 => ?_)
              obtain ⟨rfl, rfl⟩ := hp_70
              have hna : arr ≠ n1 := fun e9 => by have h9 := L.2.1; rw [e9, hno1 n1 (Nat.le_refl _)] at h9; cases h9
              rcases hcap with rfl | ⟨rfl, ha9⟩
              · refine g_V1I C (met_J2_add_E (L.kept ((va_up_ne _ _ (by omega)).trans (va_up_ne _ _ (by omega))) ((va_up_ne _ _ hna).trans (va_up_ne _ _ hna))) hb0 (gObj.of (va_up_self _ _ _) rfl q1482) (by omega)) (cwV 1 C.2.2.2.2.1 (lw_V q256 q257 q258 q67 q259) rfl rfl rfl ok_J2_add ⟨(Nat.le_of_ble_eq_true rfl), (Nat.le_of_ble_eq_true rfl)⟩) ((va_up_ne _ _ (by omega)).trans ((va_up_ne _ _ (by omega)).trans L.1)) rfl (Nat.le_of_ble_eq_true rfl) dX1_quarrels_73 ⟨(by show _ ≤ 12; omega), (by show _ ≤ 33; omega)⟩ (fun r_73 h_73 n_73 hp_73 hn_73 => ?_)
                refine g_pop C dX1_quarrels_76 rfl ?_
                refine g_iinc (lv' := [(3, _), (5, _), (4, _), (0, _), (1, _), (2, _)]) (t := 5) C dX1_quarrels_77 rfl (nI_1 _) (by decide) rfl ?_
                refine g_goto (tgt := 10) C dX1_quarrels_80 (by decide) ?_
                refine g_pick (lv' := [(0, _), (1, _), (2, _), (3, _)]) [3, 4, 5, 0] rfl ?_
                obtain ⟨rfl, F2, x1, x2, x3, rfl, x5⟩ := hp_73
                refine g_widen (k1 := 1 + 10 / 10 + cnt (qf s c r e) (p + 1)) (k2 := 3 + 10 + 2 * cnt (qf s c r e) (p + 1)) (by rw [hcs]; omega) (by rw [hcs]; omega) ?_
                exact ih (p + 1) h_73 (n1 + 1 + 1) (n1 + 1) 10 (m + 1) F2 (by omega) (by omega) (by rw [hcs]; exact x1) (Or.inr ⟨rfl, by omega⟩) (hQ.add hr1 x2 x3 ((x5 _ (by omega) (by omega)).trans ((va_up_self _ _ _).trans (by rw [hrs]))) (fun a x hx => (x5 a (fun e => by rw [e, L.1] at hx; cases hx) (fun e => by rw [e, hno1 (n1 + 1) (by omega)] at hx; cases hx)).trans ((va_up_ne _ _ (fun e => by rw [e, hno1 n1 (Nat.le_refl _)] at hx; cases hx)).trans (va_up_ne _ _ (fun e => by rw [e, hno1 n1 (Nat.le_refl _)] at hx; cases hx))))) (fun q hq => (x5 q (by omega) (by omega)).trans ((va_up_ne _ _ (by omega)).trans ((va_up_ne _ _ (by omega)).trans (fr q hq)))) (by omega)
              · refine g_V1I C (met_J2_add_R (L.kept ((va_up_ne _ _ (by omega)).trans (va_up_ne _ _ (by omega))) ((va_up_ne _ _ hna).trans (va_up_ne _ _ hna))) hb0 (gObj.of (va_up_self _ _ _) rfl q1482) (by omega)) (cwV 1 C.2.2.2.2.1 (lw_V q256 q257 q258 q67 q259) rfl rfl rfl ok_J2_add ⟨(Nat.le_of_ble_eq_true rfl), (Nat.le_of_ble_eq_true rfl)⟩) ((va_up_ne _ _ (by omega)).trans ((va_up_ne _ _ (by omega)).trans L.1)) rfl (Nat.le_of_ble_eq_true rfl) dX1_quarrels_73 ⟨(by show _ ≤ 12; omega), (by show _ ≤ 33; omega)⟩ (fun r_73 h_73 n_73 hp_73 hn_73 => ?_)
                refine g_pop C dX1_quarrels_76 rfl ?_
                refine g_iinc (lv' := [(3, _), (5, _), (4, _), (0, _), (1, _), (2, _)]) (t := 5) C dX1_quarrels_77 rfl (nI_1 _) (by decide) rfl ?_
                refine g_goto (tgt := 10) C dX1_quarrels_80 (by decide) ?_
                refine g_pick (lv' := [(0, _), (1, _), (2, _), (3, _)]) [3, 4, 5, 0] rfl ?_
                obtain ⟨rfl, F2, x1, x2, x3, rfl, x5⟩ := hp_73
                refine g_widen (k1 := 1 + 10 / 10 + cnt (qf s c r e) (p + 1)) (k2 := 3 + 10 + 2 * cnt (qf s c r e) (p + 1)) (by rw [hcs]; omega) (by rw [hcs]; omega) ?_
                exact ih (p + 1) h_73 (n1 + 1) arr 10 (m + 1) F2 (by omega) (by omega) (by rw [hcs]; exact x1) (Or.inr ⟨rfl, ha9⟩) (hQ.add hr1 x2 x3 ((x5 _ (by omega) (Ne.symm hna)).trans ((va_up_self _ _ _).trans (by rw [hrs]))) (fun a x hx => (x5 a (fun e => by rw [e, L.1] at hx; cases hx) (fun e => by rw [e, L.2.1] at hx; cases hx)).trans ((va_up_ne _ _ (fun e => by rw [e, hno1 n1 (Nat.le_refl _)] at hx; cases hx)).trans (va_up_ne _ _ (fun e => by rw [e, hno1 n1 (Nat.le_refl _)] at hx; cases hx))))) (fun q hq => (x5 q (by omega) (by omega)).trans ((va_up_ne _ _ (by omega)).trans ((va_up_ne _ _ (by omega)).trans (fr q hq)))) (by omega)
            · rw [eS_snd hfs.2.2, xm_m1 (m_mean_le V (by omega) (by have := m_op_lt (m_sd c r e); omega) (by omega))] at c_62
              have hrs : m_rs s c r e p = 1 := by unfold m_rs m_fm m_sm; rw [if_neg c_44, if_pos (Or.inr c_62)]
              refine g_iconst C dX1_quarrels_65 kc_1 ?_
              refine g_goto (tgt := 70) C dX1_quarrels_66 (by decide) ?_
              refine g_I2V C (met_X5_init (va_up_self _ _ _) hb1) (cwI 2 C.2.2.2.2.1 (lw_meth q562) rfl rfl rfl (C.2.2.2.2.1 _ q83) (C.2.2.2.2.1 _ q560) (C.2.2.2.2.1 _ q561) rfl ok_X5_init ⟨(Nat.le_of_ble_eq_true rfl), (Nat.le_of_ble_eq_true rfl)⟩) (Nat.le_of_ble_eq_true rfl) dX1_quarrels_70 ⟨(by show _ ≤ 12; omega), (by show _ ≤ 33; omega)⟩ (fun h_70 n_70 hp_70 hn_70 => ?_)
              obtain ⟨rfl, rfl⟩ := hp_70
              have hna : arr ≠ n1 := fun e9 => by have h9 := L.2.1; rw [e9, hno1 n1 (Nat.le_refl _)] at h9; cases h9
              rcases hcap with rfl | ⟨rfl, ha9⟩
              · refine g_V1I C (met_J2_add_E (L.kept ((va_up_ne _ _ (by omega)).trans (va_up_ne _ _ (by omega))) ((va_up_ne _ _ hna).trans (va_up_ne _ _ hna))) hb0 (gObj.of (va_up_self _ _ _) rfl q1482) (by omega)) (cwV 1 C.2.2.2.2.1 (lw_V q256 q257 q258 q67 q259) rfl rfl rfl ok_J2_add ⟨(Nat.le_of_ble_eq_true rfl), (Nat.le_of_ble_eq_true rfl)⟩) ((va_up_ne _ _ (by omega)).trans ((va_up_ne _ _ (by omega)).trans L.1)) rfl (Nat.le_of_ble_eq_true rfl) dX1_quarrels_73 ⟨(by show _ ≤ 12; omega), (by show _ ≤ 33; omega)⟩ (fun r_73 h_73 n_73 hp_73 hn_73 => ?_)
                refine g_pop C dX1_quarrels_76 rfl ?_
                refine g_iinc (lv' := [(3, _), (5, _), (4, _), (0, _), (1, _), (2, _)]) (t := 5) C dX1_quarrels_77 rfl (nI_1 _) (by decide) rfl ?_
                refine g_goto (tgt := 10) C dX1_quarrels_80 (by decide) ?_
                refine g_pick (lv' := [(0, _), (1, _), (2, _), (3, _)]) [3, 4, 5, 0] rfl ?_
                obtain ⟨rfl, F2, x1, x2, x3, rfl, x5⟩ := hp_73
                refine g_widen (k1 := 1 + 10 / 10 + cnt (qf s c r e) (p + 1)) (k2 := 3 + 10 + 2 * cnt (qf s c r e) (p + 1)) (by rw [hcs]; omega) (by rw [hcs]; omega) ?_
                exact ih (p + 1) h_73 (n1 + 1 + 1) (n1 + 1) 10 (m + 1) F2 (by omega) (by omega) (by rw [hcs]; exact x1) (Or.inr ⟨rfl, by omega⟩) (hQ.add hr1 x2 x3 ((x5 _ (by omega) (by omega)).trans ((va_up_self _ _ _).trans (by rw [hrs]))) (fun a x hx => (x5 a (fun e => by rw [e, L.1] at hx; cases hx) (fun e => by rw [e, hno1 (n1 + 1) (by omega)] at hx; cases hx)).trans ((va_up_ne _ _ (fun e => by rw [e, hno1 n1 (Nat.le_refl _)] at hx; cases hx)).trans (va_up_ne _ _ (fun e => by rw [e, hno1 n1 (Nat.le_refl _)] at hx; cases hx))))) (fun q hq => (x5 q (by omega) (by omega)).trans ((va_up_ne _ _ (by omega)).trans ((va_up_ne _ _ (by omega)).trans (fr q hq)))) (by omega)
              · refine g_V1I C (met_J2_add_R (L.kept ((va_up_ne _ _ (by omega)).trans (va_up_ne _ _ (by omega))) ((va_up_ne _ _ hna).trans (va_up_ne _ _ hna))) hb0 (gObj.of (va_up_self _ _ _) rfl q1482) (by omega)) (cwV 1 C.2.2.2.2.1 (lw_V q256 q257 q258 q67 q259) rfl rfl rfl ok_J2_add ⟨(Nat.le_of_ble_eq_true rfl), (Nat.le_of_ble_eq_true rfl)⟩) ((va_up_ne _ _ (by omega)).trans ((va_up_ne _ _ (by omega)).trans L.1)) rfl (Nat.le_of_ble_eq_true rfl) dX1_quarrels_73 ⟨(by show _ ≤ 12; omega), (by show _ ≤ 33; omega)⟩ (fun r_73 h_73 n_73 hp_73 hn_73 => ?_)
                refine g_pop C dX1_quarrels_76 rfl ?_
                refine g_iinc (lv' := [(3, _), (5, _), (4, _), (0, _), (1, _), (2, _)]) (t := 5) C dX1_quarrels_77 rfl (nI_1 _) (by decide) rfl ?_
                refine g_goto (tgt := 10) C dX1_quarrels_80 (by decide) ?_
                refine g_pick (lv' := [(0, _), (1, _), (2, _), (3, _)]) [3, 4, 5, 0] rfl ?_
                obtain ⟨rfl, F2, x1, x2, x3, rfl, x5⟩ := hp_73
                refine g_widen (k1 := 1 + 10 / 10 + cnt (qf s c r e) (p + 1)) (k2 := 3 + 10 + 2 * cnt (qf s c r e) (p + 1)) (by rw [hcs]; omega) (by rw [hcs]; omega) ?_
                exact ih (p + 1) h_73 (n1 + 1) arr 10 (m + 1) F2 (by omega) (by omega) (by rw [hcs]; exact x1) (Or.inr ⟨rfl, ha9⟩) (hQ.add hr1 x2 x3 ((x5 _ (by omega) (Ne.symm hna)).trans ((va_up_self _ _ _).trans (by rw [hrs]))) (fun a x hx => (x5 a (fun e => by rw [e, L.1] at hx; cases hx) (fun e => by rw [e, L.2.1] at hx; cases hx)).trans ((va_up_ne _ _ (fun e => by rw [e, hno1 n1 (Nat.le_refl _)] at hx; cases hx)).trans (va_up_ne _ _ (fun e => by rw [e, hno1 n1 (Nat.le_refl _)] at hx; cases hx))))) (fun q hq => (x5 q (by omega) (by omega)).trans ((va_up_ne _ _ (by omega)).trans ((va_up_ne _ _ (by omega)).trans (fr q hq)))) (by omega)
  refine g_pick (lv' := [(0, _), (1, _), (2, _), (3, _)]) [2, 3, 1, 0] rfl ?_
  refine g_widen (k1 := 1 + 0 / 10 + cnt (qf s c r e) 0) (k2 := 3 + 0 + 2 * cnt (qf s c r e) 0) (by show _ ≤ 1; omega) (by show _ ≤ 3; omega) ?_
  exact loop 11 0 _ (n + 1) (D.1 201) 0 (nI 0) (fun _ => none) (by omega) (by omega) L0 (Or.inl rfl) (fun p hp => absurd hp (by omega)) fr0 (by omega)
