theorem ok_X1_addEdges : yX1_addEdges.cls = "MapSheets$Library" ∧ yX1_addEdges.cls ≠ "java/lang/invoke/MethodHandle" ∧ yX1_addEdges.cls ≠ "java/lang/invoke/VarHandle" ∧ (parseMethodDescriptor yX1_addEdges.desc).map (fun d => d.parameters.length) = some 0 := by decide +kernel
set_option maxHeartbeats 4000000 in
set_option maxRecDepth 100000 in
theorem met_X1_addEdges {l : Launch} {D : va_G} {b0 n : Nat} {h : GH} {Z : Nat → Prop} {ad : Nat → Nat} {s : Nat → Int32} {c r : Nat} (B : LbG D b0 h Z ad s c r (c * r) 0) (I : MI s c r) (hz : ∀ e, e < 60 → s (4 + e) = nI 0) (h5 : ad 5 = D.1 201) (hZ : ∀ q, n ≤ q → Z q) : gMet l yX1_addEdges cX1_addEdges 2 (none) 7 191 120 6840 D b0 h n [.ref (ad 0)] (pV (fun h' n' => ∃ ad', LbAt D b0 h' Z ad' s c r ∧ (∀ j, j ≠ 5 → (j < 6 ∨ 66 ≤ j) → ad' j = ad j) ∧ (∀ q, q < n → q ≠ ad 2 → h' q = h q) ∧ n ≤ n')) := by
  refine gMet.of (lv := [(0, _)]) (by decide) (Nat.le_of_ble_eq_true rfl) rfl ?_
  intro p_ e_ U0 m_ args_ below_ meth_ co_ C hr hlk hnm
  have hI := m_ed_le I
  obtain ⟨I0, I1, I2, I3, I4, I5⟩ := id I
  refine g_iconst C dX1_addEdges_0 kc_0 ?_
  refine g_istore_n (lv' := [(1, _), (0, _)]) C dX1_addEdges_1 rfl (by decide) rfl ?_
  have loop : ∀ (N_ i : Nat) (h1 : GH) (n1 : Nat) (ad1 : Nat → Nat), i ≤ c * r → c * r < i + N_ → LbG D b0 h1 Z ad1 s c r (c * r) (edk c i) → (∀ j, j ≠ 5 → (j < 6 ∨ 66 ≤ j) → ad1 j = ad j) → (ad1 5 = D.1 201 ∨ n ≤ ad1 5) → (∀ q, q < n → q ≠ ad 2 → h1 q = h q) → n ≤ n1 → gW p_ l e_ (headSpec (ws_ yX1_addEdges cX1_addEdges 2 (none)) (gRm 7 191 120 6840)).room U0 m_ args_ below_ meth_ co_ (MQ below_ (gQc D b0 (pV (fun h' n' => ∃ ad', LbAt D b0 h' Z ad' s c r ∧ (∀ j, j ≠ 5 → (j < 6 ∨ 66 ≤ j) → ad' j = ad j) ∧ (∀ q, q < n → q ≠ ad 2 → h' q = h q) ∧ n ≤ n'))) args_ U0 120 6840 (gA b0)) D b0 2 h1 n1 (2 * edk c i) (114 * edk c i) 2 [(0, .ref (ad 0)), (1, .int (nI i))] [] := by
    intro N_
    induction N_ with
    | zero => intro i h1 n1 ad1 h1_ h2_; exact absurd h2_ (by omega)
    | succ N_ ih =>
      intro i h1 n1 ad1 h1_ h2_ B1 hA h51 fr hn1
      refine g_none (fun hno1 => ?_)
      refine g_size C (fun hb1 => ?_)
      have ob := B1.obj
      rw [hA 0 (by omega) (by omega), hA 1 (by omega) (by omega), hA 2 (by omega) (by omega), hA 3 (by omega) (by omega)] at ob
      obtain ⟨cp, mm, F, L, G⟩ := B1.l2
      rw [hA 2 (by omega) (by omega)] at L
      have hl2 : ad 2 < n1 := by have := B1.lt hno1 (i := 2) (Or.inl (by omega)); rwa [hA 2 (by omega) (by omega)] at this
      have hl0 : ad 0 < n1 := by have := B1.lt hno1 (i := 0) (Or.inl (by omega)); rwa [hA 0 (by omega) (by omega)] at this
      have hl5 := B1.lt hno1 (i := 5) (Or.inl (by omega))
      refine g_iload_n C dX1_addEdges_2 rfl 1 rfl ?_
      refine g_aload_n C dX1_addEdges_3 rfl 0 rfl ?_
      refine g_get C in_X1 ob rfl 0 (by decide) q139 (fun _ hx => hx) rfl dX1_addEdges_4 ?_
      refine g_aload_n C dX1_addEdges_7 rfl 0 rfl ?_
      refine g_get C in_X1 ob rfl 1 (by decide) q141 (fun _ hx => hx) rfl dX1_addEdges_8 ?_
      refine g_imulN C dX1_addEdges_11 ?_
      refine g_icmp_geN (tgt := 56) C dX1_addEdges_12 (by decide) (by omega) (by omega) (fun c_12 => ?_) (fun c_12 => ?_)
      · refine g_iconst C dX1_addEdges_56 kc_0 ?_
        refine g_istore_n (lv' := [(1, _), (0, _)]) C dX1_addEdges_57 rfl (by decide) rfl ?_
        have loop2 : ∀ (N2 i : Nat) (h1 : GH) (n1 : Nat) (ad1 : Nat → Nat), i ≤ c * (r - 1) → c * (r - 1) < i + N2 → LbG D b0 h1 Z ad1 s c r (c * r) (m_re c r + i) → (∀ j, j ≠ 5 → (j < 6 ∨ 66 ≤ j) → ad1 j = ad j) → (ad1 5 = D.1 201 ∨ n ≤ ad1 5) → (∀ q, q < n → q ≠ ad 2 → h1 q = h q) → n ≤ n1 → gW p_ l e_ (headSpec (ws_ yX1_addEdges cX1_addEdges 2 (none)) (gRm 7 191 120 6840)).room U0 m_ args_ below_ meth_ co_ (MQ below_ (gQc D b0 (pV (fun h' n' => ∃ ad', LbAt D b0 h' Z ad' s c r ∧ (∀ j, j ≠ 5 → (j < 6 ∨ 66 ≤ j) → ad' j = ad j) ∧ (∀ q, q < n → q ≠ ad 2 → h' q = h q) ∧ n ≤ n'))) args_ U0 120 6840 (gA b0)) D b0 2 h1 n1 (2 * (m_re c r + i)) (114 * (m_re c r + i)) 58 [(0, .ref (ad 0)), (1, .int (nI i))] [] := by
          intro N2
          induction N2 with
          | zero => intro i h1 n1 ad1 h3_ h4_; exact absurd h4_ (by omega)
          | succ N2 ih2 =>
            intro i h1 n1 ad1 h3_ h4_ B1 hA h51 fr hn1
            refine g_none (fun hno1 => ?_)
            refine g_size C (fun hb1 => ?_)
            have ob := B1.obj
            rw [hA 0 (by omega) (by omega), hA 1 (by omega) (by omega), hA 2 (by omega) (by omega), hA 3 (by omega) (by omega)] at ob
            obtain ⟨cp, mm, F, L, G⟩ := B1.l2
            rw [hA 2 (by omega) (by omega)] at L
            have hl2 : ad 2 < n1 := by have := B1.lt hno1 (i := 2) (Or.inl (by omega)); rwa [hA 2 (by omega) (by omega)] at this
            have hl0 : ad 0 < n1 := by have := B1.lt hno1 (i := 0) (Or.inl (by omega)); rwa [hA 0 (by omega) (by omega)] at this
            have hl5 := B1.lt hno1 (i := 5) (Or.inl (by omega))
            refine g_iload_n C dX1_addEdges_58 rfl 1 rfl ?_
            refine g_aload_n C dX1_addEdges_59 rfl 0 rfl ?_
            refine g_get C in_X1 ob rfl 0 (by decide) q139 (fun _ hx => hx) rfl dX1_addEdges_60 ?_
            refine g_aload_n C dX1_addEdges_63 rfl 0 rfl ?_
            refine g_get C in_X1 ob rfl 1 (by decide) q141 (fun _ hx => hx) rfl dX1_addEdges_64 ?_
            refine g_iconst C dX1_addEdges_67 kc_1 ?_
            refine g_isubN C dX1_addEdges_68 (by omega) ?_
            refine g_imulN C dX1_addEdges_69 ?_
            refine g_icmp_geN (tgt := 102) C dX1_addEdges_70 (by decide) (by omega) (by omega) (fun c_70 => ?_) (fun c_70 => ?_)
            · exact g_vret C hr hlk dX1_addEdges_102 (by omega) (by omega) ⟨rfl, ⟨ad1, by rw [show m_re c r + i = m_ed c r by rw [show i = c * (r - 1) by omega]] at B1; exact B1, hA, fr, hn1⟩⟩
            · have ek3 := edk_3 I (show i < c * (r - 1) by omega)
              refine g_aload_n C dX1_addEdges_73 rfl 0 rfl ?_
              refine g_get C in_X1 ob rfl 3 (by decide) q145 (fun _ hx => hx) rfl dX1_addEdges_74 ?_
              refine g_new (ci := 3) (fs := [.int 0, .int 0, .int 0, .int 0]) C in_X3 tyX3 tyX3_ok q320 q321 q78 rfl born_X3 (by show _ ≤ 120; omega) (by show _ ≤ 6840; omega) dX1_addEdges_77 ?_
              refine g_opq (fun h77 e77 o77 => ?_)
              refine g_dup C dX1_addEdges_80 rfl ?_
              refine g_iload_n C dX1_addEdges_81 rfl 1 rfl ?_
              refine g_iload_n C dX1_addEdges_82 rfl 1 rfl ?_
              refine g_aload_n C dX1_addEdges_83 rfl 0 rfl ?_
              refine g_get C in_X1 ((o77 _ (by first | assumption | omega)).trans ob) rfl 0 (by decide) q139 (fun _ hx => hx) rfl dX1_addEdges_84 ?_
              refine g_iaddN C dX1_addEdges_87 ?_
              refine g_iconst C dX1_addEdges_88 kc_2 ?_
              refine g_I3V C (met_X3_init e77 hb1) (cwI 3 C.2.2.2.2.1 (lw_meth q324) rfl rfl rfl (C.2.2.2.2.1 _ q78) (C.2.2.2.2.1 _ q322) (C.2.2.2.2.1 _ q323) rfl ok_X3_init ⟨(Nat.le_of_ble_eq_true rfl), (Nat.le_of_ble_eq_true rfl)⟩) (Nat.le_of_ble_eq_true rfl) dX1_addEdges_89 ⟨(by show _ ≤ 120; omega), (by show _ ≤ 6840; omega)⟩ (fun h_89 n_89 hp_89 hn_89 => ?_)
              obtain ⟨rfl, rfl⟩ := hp_89
              refine g_opq (fun h89 e89 o89 => ?_)
              have ox : ∀ q, q ≠ n1 → h89 q = h1 q := fun q hq => (o89 q hq).trans (o77 q hq)
              refine g_V1I C (met_J2_add_A (L.kept (ox _ (by omega)) (ox _ (by omega))) (by have := B1.ge 2 (Or.inl (by omega)) (by omega) (by omega); rwa [hA 2 (by omega) (by omega)] at this) (gObj.of e89 rfl q1479) (by omega) (fun e he w hw => by rw [G e he] at hw; cases hw; exact gObj.of ((ox _ (Nat.ne_of_lt (B1.lt hno1 (Or.inr (Or.inl (by omega)))))).trans (B1.ed e he)) rfl q1479)) (cwV 1 C.2.2.2.2.1 (lw_V q256 q257 q258 q67 q259) rfl rfl rfl ok_J2_add ⟨(Nat.le_of_ble_eq_true rfl), (Nat.le_of_ble_eq_true rfl)⟩) ((ox _ (by omega)).trans L.1) rfl (Nat.le_of_ble_eq_true rfl) dX1_addEdges_92 ⟨(by show _ ≤ 120; omega), (by show _ ≤ 6840; omega)⟩ (fun r_92 h_92 n_92 hp_92 hn_92 => ?_)
              obtain ⟨rfl, P_92⟩ := hp_92
              rw [← hA 2 (by omega) (by omega)] at P_92
              obtain ⟨ad2, B2, a1, a2, a3⟩ := B1.addE (by omega) G (hno1 n1 (Nat.le_refl _)) ((ox _ (by omega)).trans (hno1 (n1 + 1) (by omega))) hb1 (hZ _ hn1) (by omega) (hZ _ (by omega)) (e89.trans (by rw [ek3.1, ek3.2.1, ek3.2.2, hz _ (by omega)]; rfl)) ox P_92
              rw [hA 2 (by omega) (by omega)] at a3
              have hA2 : ∀ j, j ≠ 5 → (j < 6 ∨ 66 ≤ j) → ad2 j = ad j := fun j j1 j2 => (a1 j j1 (by omega)).trans (hA j j1 j2)
              have h52 : n ≤ ad2 5 := by
                rcases a2 with ⟨q1, q2, q3⟩ | ⟨q1, q2⟩
                · rw [q1]; exact h51.resolve_left (fun z => B1.hD _ q3 z)
                · omega
              have hn2 : n1 ≤ n_92 := by omega
              have frx : ∀ q, q < n → q ≠ ad 2 → h_92 q = h q := fun q q1 q2 => (a3 q (by omega) q2 (by omega)).trans (fr q q1 q2)
              refine g_pop C dX1_addEdges_95 rfl ?_
              refine g_iinc (lv' := [(1, _), (0, _)]) (t := 1) C dX1_addEdges_96 rfl (nI_1 _) (by decide) rfl ?_
              refine g_goto (tgt := 58) C dX1_addEdges_99 (by decide) ?_
              refine g_pick (lv' := [(0, _), (1, _)]) [1, 0] rfl ?_
              refine g_widen (k1 := 2 * (m_re c r + (i + 1))) (k2 := 114 * (m_re c r + (i + 1))) (by omega) (by omega) ?_
              exact ih2 (i + 1) h_92 n_92 ad2 (by omega) (by omega) B2 hA2 (Or.inr h52) frx (by omega)
        refine g_pick (lv' := [(0, _), (1, _)]) [1, 0] rfl ?_
        obtain rfl : i = c * r := by omega
        rw [edk_2 I] at B1
        refine g_widen (k1 := 2 * (m_re c r + 0)) (k2 := 114 * (m_re c r + 0)) (by rw [edk_2 I]; omega) (by rw [edk_2 I]; omega) ?_
        exact loop2 (c * (r - 1) + 1) 0 h1 n1 ad1 (by omega) (by omega) B1 hA h51 fr hn1
      · refine g_iload_n C dX1_addEdges_15 rfl 1 rfl ?_
        refine g_aload_n C dX1_addEdges_16 rfl 0 rfl ?_
        have ek := edk_1 I (show i < c * r by omega)
        have hmd := Nat.mod_lt i (show 0 < c by omega)
        refine g_get C in_X1 ob rfl 0 (by decide) q139 (fun _ hx => hx) rfl dX1_addEdges_17 ?_
        refine g_iremN C dX1_addEdges_20 (by omega) (by omega) (by omega) ?_
        refine g_aload_n C dX1_addEdges_21 rfl 0 rfl ?_
        refine g_get C in_X1 ob rfl 0 (by decide) q139 (fun _ hx => hx) rfl dX1_addEdges_22 ?_
        refine g_iconst C dX1_addEdges_25 kc_1 ?_
        refine g_isubN C dX1_addEdges_26 (by omega) ?_
        refine g_icmp_geN (tgt := 50) C dX1_addEdges_27 (by decide) (by omega) (by omega) (fun c_27 => ?_) (fun c_27 => ?_)
        · have ek2 := ek.2.2 (by omega)
          refine g_iinc (lv' := [(1, _), (0, _)]) (t := 1) C dX1_addEdges_50 rfl (nI_1 _) (by decide) rfl ?_
          refine g_goto (tgt := 2) C dX1_addEdges_53 (by decide) ?_
          refine g_pick (lv' := [(0, _), (1, _)]) [1, 0] rfl ?_
          refine g_widen (k1 := 2 * edk c (i + 1)) (k2 := 114 * edk c (i + 1)) (by rw [ek2]; omega) (by rw [ek2]; omega) ?_
          exact ih (i + 1) h1 n1 ad1 (by omega) (by omega) (by rw [ek2]; exact B1) hA h51 fr hn1
        · have ek1 := ek.2.1 (by omega)
          refine g_aload_n C dX1_addEdges_30 rfl 0 rfl ?_
          refine g_get C in_X1 ob rfl 3 (by decide) q145 (fun _ hx => hx) rfl dX1_addEdges_31 ?_
          refine g_new (ci := 3) (fs := [.int 0, .int 0, .int 0, .int 0]) C in_X3 tyX3 tyX3_ok q320 q321 q78 rfl born_X3 (by show _ ≤ 120; omega) (by show _ ≤ 6840; omega) dX1_addEdges_34 ?_
          refine g_opq (fun h34 e34 o34 => ?_)
          refine g_dup C dX1_addEdges_37 rfl ?_
          refine g_iload_n C dX1_addEdges_38 rfl 1 rfl ?_
          refine g_iload_n C dX1_addEdges_39 rfl 1 rfl ?_
          refine g_iconst C dX1_addEdges_40 kc_1 ?_
          refine g_iaddN C dX1_addEdges_41 ?_
          refine g_iconst C dX1_addEdges_42 kc_1 ?_
          refine g_I3V C (met_X3_init e34 hb1) (cwI 3 C.2.2.2.2.1 (lw_meth q324) rfl rfl rfl (C.2.2.2.2.1 _ q78) (C.2.2.2.2.1 _ q322) (C.2.2.2.2.1 _ q323) rfl ok_X3_init ⟨(Nat.le_of_ble_eq_true rfl), (Nat.le_of_ble_eq_true rfl)⟩) (Nat.le_of_ble_eq_true rfl) dX1_addEdges_43 ⟨(by show _ ≤ 120; omega), (by show _ ≤ 6840; omega)⟩ (fun h_43 n_43 hp_43 hn_43 => ?_)
          obtain ⟨rfl, rfl⟩ := hp_43
          refine g_opq (fun h43 e43 o43 => ?_)
          have ox : ∀ q, q ≠ n1 → h43 q = h1 q := fun q hq => (o43 q hq).trans (o34 q hq)
          refine g_V1I C (met_J2_add_A (L.kept (ox _ (by omega)) (ox _ (by omega))) (by have := B1.ge 2 (Or.inl (by omega)) (by omega) (by omega); rwa [hA 2 (by omega) (by omega)] at this) (gObj.of e43 rfl q1479) (by omega) (fun e he w hw => by rw [G e he] at hw; cases hw; exact gObj.of ((ox _ (Nat.ne_of_lt (B1.lt hno1 (Or.inr (Or.inl (by omega)))))).trans (B1.ed e he)) rfl q1479)) (cwV 1 C.2.2.2.2.1 (lw_V q256 q257 q258 q67 q259) rfl rfl rfl ok_J2_add ⟨(Nat.le_of_ble_eq_true rfl), (Nat.le_of_ble_eq_true rfl)⟩) ((ox _ (by omega)).trans L.1) rfl (Nat.le_of_ble_eq_true rfl) dX1_addEdges_46 ⟨(by show _ ≤ 120; omega), (by show _ ≤ 6840; omega)⟩ (fun r_46 h_46 n_46 hp_46 hn_46 => ?_)
          obtain ⟨rfl, P_46⟩ := hp_46
          rw [← hA 2 (by omega) (by omega)] at P_46
          obtain ⟨ad2, B2, a1, a2, a3⟩ := B1.addE (by omega) G (hno1 n1 (Nat.le_refl _)) ((ox _ (by omega)).trans (hno1 (n1 + 1) (by omega))) hb1 (hZ _ hn1) (by omega) (hZ _ (by omega)) (e43.trans (by rw [ek1.2.1, ek1.2.2.1, ek1.2.2.2, hz _ (by omega)]; rfl)) ox P_46
          rw [hA 2 (by omega) (by omega)] at a3
          have hA2 : ∀ j, j ≠ 5 → (j < 6 ∨ 66 ≤ j) → ad2 j = ad j := fun j j1 j2 => (a1 j j1 (by omega)).trans (hA j j1 j2)
          have h52 : n ≤ ad2 5 := by
            rcases a2 with ⟨q1, q2, q3⟩ | ⟨q1, q2⟩
            · rw [q1]; exact h51.resolve_left (fun z => B1.hD _ q3 z)
            · omega
          have hn2 : n1 ≤ n_46 := by omega
          have frx : ∀ q, q < n → q ≠ ad 2 → h_46 q = h q := fun q q1 q2 => (a3 q (by omega) q2 (by omega)).trans (fr q q1 q2)
          refine g_pop C dX1_addEdges_49 rfl ?_
          refine g_iinc (lv' := [(1, _), (0, _)]) (t := 1) C dX1_addEdges_50 rfl (nI_1 _) (by decide) rfl ?_
          refine g_goto (tgt := 2) C dX1_addEdges_53 (by decide) ?_
          refine g_pick (lv' := [(0, _), (1, _)]) [1, 0] rfl ?_
          refine g_widen (k1 := 2 * edk c (i + 1)) (k2 := 114 * edk c (i + 1)) (by omega) (by omega) ?_
          exact ih (i + 1) h_46 n_46 ad2 (by omega) (by omega) (by rw [ek1.1]; exact B2) hA2 (Or.inr h52) frx (by omega)
  refine g_pick (lv' := [(0, _), (1, _)]) [1, 0] rfl ?_
  refine g_widen (k1 := 2 * edk c 0) (k2 := 114 * edk c 0) (by omega) (by omega) ?_
  exact loop (c * r + 1) 0 h n ad (by omega) (by omega) (by rw [show edk c 0 = 0 by unfold edk; simp]; exact B) (fun _ _ _ => rfl) (Or.inl h5) (fun _ _ _ => rfl) (Nat.le_refl _)
