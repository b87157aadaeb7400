theorem ok_X4_begins : yX4_begins.cls = "MapSheetsModel" ∧ yX4_begins.cls ≠ "java/lang/invoke/MethodHandle" ∧ yX4_begins.cls ≠ "java/lang/invoke/VarHandle" ∧ (parseMethodDescriptor yX4_begins.desc).map (fun d => d.parameters.length) = some 2 := by decide +kernel
set_option maxHeartbeats 4000000 in
set_option maxRecDepth 100000 in
theorem met_X4_begins {l : Launch} {D : va_G} {b0 n : Nat} {h0 : GH} {g : Nat → Nat} {s w a t b : Nat → Int32} {st ty : Int32} {c : Nat} {r : Nat} (G : gM b0 g) (hc : 1 ≤ c ∧ c ≤ 6) (hr2 : 1 ≤ r ∧ r ≤ 6) : gMet l yX4_begins cX4_begins 5 (none) 0 0 0 0 D b0 (mh h0 D g s w a t b st ty) n [.ref (g 0), .int (nI c), .int (nI r)] (pV (fun h' n' => (mh h0 D g (m_beg s c r) w a t b st ty) = h' ∧ n = n')) := by
  refine gMet.of (lv := [(0, _), (1, _), (2, _)]) (by decide) (Nat.le_of_ble_eq_true rfl) rfl ?_
  intro p_ e_ U0 m_ args_ below_ meth_ co_ C hr hlk hnm
  refine g_aload_n C dX4_begins_0 rfl 0 rfl ?_
  refine g_get C in_X4 (mh_0 G) rfl 0 (by decide) q1160 (fun _ hx => hx) rfl dX4_begins_1 ?_
  refine g_iconst C dX4_begins_4 kc_0 ?_
  refine g_iload_n C dX4_begins_5 rfl 1 rfl ?_
  refine g_iastN C (mh_1 G) G.ge1 (by omega) (by omega) (mh_u1 G) dX4_begins_6 ?_
  refine g_aload_n C dX4_begins_7 rfl 0 rfl ?_
  refine g_get C in_X4 (mh_0 G) rfl 0 (by decide) q1160 (fun _ hx => hx) rfl dX4_begins_8 ?_
  refine g_iconst C dX4_begins_11 kc_1 ?_
  refine g_iload_n C dX4_begins_12 rfl 2 rfl ?_
  refine g_iastN C (mh_1 G) G.ge1 (by omega) (by omega) (mh_u1 G) dX4_begins_13 ?_
  refine g_iconst C dX4_begins_14 kc_4 ?_
  refine g_istore_n (lv' := [(3, _), (0, _), (1, _), (2, _)]) C dX4_begins_15 rfl (by decide) rfl ?_
  have loop : ∀ (N_ i : Nat), 4 ≤ i → i ≤ 64 → 64 < i + N_ → gW p_ l e_ (headSpec (ws_ yX4_begins cX4_begins 5 (none)) (gRm 0 0 0 0)).room U0 m_ args_ below_ meth_ co_ (MQ below_ (gQc D b0 (pV (fun h' n' => (mh h0 D g (m_beg s c r) w a t b st ty) = h' ∧ n = n'))) args_ U0 0 0 (gA b0)) D b0 5 (mh h0 D g (fill (fun _ => 0) (upd (upd s 0 (nI c)) 1 (nI r)) 4 i) w a t b st ty) n 0 0 16 [(0, .ref (g 0)), (1, .int (nI c)), (2, .int (nI r)), (3, .int (nI i))] [] := by
    intro N_
    induction N_ with
    | zero => intro i hlo_ h1_ h2_; exact absurd h2_ (by omega)
    | succ N_ ih =>
      intro i hlo_ h1_ h2_
      refine g_iload_n C dX4_begins_16 rfl 3 rfl ?_
      refine g_bipush C dX4_begins_17 kb_64 ?_
      refine g_icmp_geN (tgt := 35) C dX4_begins_19 (by decide) (by omega) (by omega) (fun c_19 => ?_) (fun c_19 => ?_)
      · refine g_iconst C dX4_begins_35 kc_0 ?_
        refine g_istore_n (lv' := [(3, _), (0, _), (1, _), (2, _)]) C dX4_begins_36 rfl (by decide) rfl ?_
        have loop2 : ∀ (N2 k : Nat), k ≤ 36 → 36 < k + N2 → gW p_ l e_ (headSpec (ws_ yX4_begins cX4_begins 5 (none)) (gRm 0 0 0 0)).room U0 m_ args_ below_ meth_ co_ (MQ below_ (gQc D b0 (pV (fun h' n' => (mh h0 D g (m_beg s c r) w a t b st ty) = h' ∧ n = n'))) args_ U0 0 0 (gA b0)) D b0 5 (mh h0 D g (fill (fun x => m_df ((x - 64) % 53)) (m_b1 s c r) 64 (64 + 53 * k)) w a t b st ty) n 0 0 37 [(0, .ref (g 0)), (1, .int (nI c)), (2, .int (nI r)), (3, .int (nI k))] [] := by
          intro N2
          induction N2 with
          | zero => intro k h3_ h4_; exact absurd h4_ (by omega)
          | succ N2 ih2 =>
            intro k h3_ h4_
            refine g_iload_n C dX4_begins_37 rfl 3 rfl ?_
            refine g_bipush C dX4_begins_38 kb_36 ?_
            refine g_icmp_geN (tgt := 133) C dX4_begins_40 (by decide) (by omega) (by omega) (fun c_40 => ?_) (fun c_40 => ?_)
            · exact g_vret C hr hlk dX4_begins_133 (Nat.le_of_ble_eq_true rfl) (Nat.le_of_ble_eq_true rfl) ⟨rfl, by rw [show k = 36 by omega]; rfl, rfl⟩
            · refine g_iconst C dX4_begins_43 kc_0 ?_
              refine g_istore (lv' := [(4, _), (0, _), (1, _), (2, _), (3, _)]) C dX4_begins_44 (by decide) rfl ?_
              have loop3 : ∀ (N3 i : Nat), i ≤ 53 → 53 < i + N3 → gW p_ l e_ (headSpec (ws_ yX4_begins cX4_begins 5 (none)) (gRm 0 0 0 0)).room U0 m_ args_ below_ meth_ co_ (MQ below_ (gQc D b0 (pV (fun h' n' => (mh h0 D g (m_beg s c r) w a t b st ty) = h' ∧ n = n'))) args_ U0 0 0 (gA b0)) D b0 5 (mh h0 D g (fill (fun x => m_df ((x - 64) % 53)) (m_b1 s c r) 64 (64 + 53 * k + i)) w a t b st ty) n 0 0 46 [(0, .ref (g 0)), (1, .int (nI c)), (2, .int (nI r)), (3, .int (nI k)), (4, .int (nI i))] [] := by
                intro N3
                induction N3 with
                | zero => intro i h5_ h6_; exact absurd h6_ (by omega)
                | succ N3 ih3 =>
                  intro i h5_ h6_
                  refine g_iload C dX4_begins_46 4 rfl ?_
                  refine g_bipush C dX4_begins_48 kb_53 ?_
                  refine g_icmp_geN (tgt := 127) C dX4_begins_50 (by decide) (by omega) (by omega) (fun c_50 => ?_) (fun c_50 => ?_)
                  · refine g_iinc (lv' := [(3, _), (0, _), (1, _), (2, _), (4, _)]) (t := 3) C dX4_begins_127 rfl (nI_1 _) (by decide) rfl ?_
                    refine g_goto (tgt := 37) C dX4_begins_130 (by decide) ?_
                    refine g_pick (lv' := [(0, _), (1, _), (2, _), (3, _)]) [1, 2, 3, 0] rfl ?_
                    refine g_heap (h' := mh h0 D g (fill (fun x => m_df ((x - 64) % 53)) (m_b1 s c r) 64 (64 + 53 * (k + 1))) w a t b st ty) (by rw [show 64 + 53 * k + i = 64 + 53 * (k + 1) by omega]) ?_
                    exact ih2 (k + 1) (by omega) (by omega)
                  · refine g_aload_n C dX4_begins_53 rfl 0 rfl ?_
                    refine g_get C in_X4 (mh_0 G) rfl 0 (by decide) q1160 (fun _ hx => hx) rfl dX4_begins_54 ?_
                    refine g_bipush C dX4_begins_57 kb_64 ?_
                    refine g_bipush C dX4_begins_59 kb_53 ?_
                    refine g_iload_n C dX4_begins_61 rfl 3 rfl ?_
                    refine g_imulN C dX4_begins_62 ?_
                    refine g_iaddN C dX4_begins_63 ?_
                    refine g_iload C dX4_begins_64 4 rfl ?_
                    refine g_iaddN C dX4_begins_66 ?_
                    refine g_iload C dX4_begins_67 4 rfl ?_
                    refine g_bipush C dX4_begins_69 kb_40 ?_
                    refine g_icmp_geN (tgt := 79) C dX4_begins_71 (by decide) (by omega) (by omega) (fun c_71 => ?_) (fun c_71 => ?_)
                    · refine g_iload C dX4_begins_79 4 rfl ?_
                      refine g_bipush C dX4_begins_81 kb_50 ?_
                      refine g_icmp_geN (tgt := 94) C dX4_begins_83 (by decide) (by omega) (by omega) (fun c_83 => ?_) (fun c_83 => ?_)
                      · refine g_iload C dX4_begins_94 4 rfl ?_
                        refine g_bipush C dX4_begins_96 kb_50 ?_
                        refine g_icmp_neN (tgt := 105) C dX4_begins_98 (by decide) (by omega) (by omega) (fun c_98 => ?_) (fun c_98 => ?_)
                        · refine g_iload C dX4_begins_105 4 rfl ?_
                          refine g_bipush C dX4_begins_107 kb_51 ?_
                          refine g_icmp_neN (tgt := 117) C dX4_begins_109 (by decide) (by omega) (by omega) (fun c_109 => ?_) (fun c_109 => ?_)
                          · refine g_sipush C dX4_begins_117 ks_1000 ?_
                            refine g_iastN C (mh_1 G) G.ge1 (by omega) (by omega) (mh_u1 G) dX4_begins_120 ?_
                            refine g_iinc (lv' := [(4, _), (0, _), (1, _), (2, _), (3, _)]) (t := 4) C dX4_begins_121 rfl (nI_1 _) (by decide) rfl ?_
                            refine g_goto (tgt := 46) C dX4_begins_124 (by decide) ?_
                            refine g_pick (lv' := [(0, _), (1, _), (2, _), (3, _), (4, _)]) [1, 2, 3, 4, 0] rfl ?_
                            refine g_heap (h' := mh h0 D g (fill (fun x => m_df ((x - 64) % 53)) (m_b1 s c r) 64 (64 + 53 * k + i + 1)) w a t b st ty) (by rw [fill_s (by omega) (by rw [m_df_at (by omega)]; first | exact (m_df_a (by omega)).symm | exact (m_df_b (by omega) (by omega)).symm | exact (m_df_c (by omega)).symm | exact (m_df_d (by omega)).symm | exact (m_df_e (by omega)).symm)]) ?_
                            exact ih3 (i + 1) (by omega) (by omega)
                          · refine g_bipush C dX4_begins_112 kb_m4 ?_
                            refine g_goto (tgt := 120) C dX4_begins_114 (by decide) ?_
                            refine g_iastN C (mh_1 G) G.ge1 (by omega) (by omega) (mh_u1 G) dX4_begins_120 ?_
                            refine g_iinc (lv' := [(4, _), (0, _), (1, _), (2, _), (3, _)]) (t := 4) C dX4_begins_121 rfl (nI_1 _) (by decide) rfl ?_
                            refine g_goto (tgt := 46) C dX4_begins_124 (by decide) ?_
                            refine g_pick (lv' := [(0, _), (1, _), (2, _), (3, _), (4, _)]) [1, 2, 3, 4, 0] rfl ?_
                            refine g_heap (h' := mh h0 D g (fill (fun x => m_df ((x - 64) % 53)) (m_b1 s c r) 64 (64 + 53 * k + i + 1)) w a t b st ty) (by rw [fill_s (by omega) (by rw [m_df_at (by omega)]; first | exact (m_df_a (by omega)).symm | exact (m_df_b (by omega) (by omega)).symm | exact (m_df_c (by omega)).symm | exact (m_df_d (by omega)).symm | exact (m_df_e (by omega)).symm)]) ?_
                            exact ih3 (i + 1) (by omega) (by omega)
                        · refine g_iconst C dX4_begins_101 kc_0 ?_
                          refine g_goto (tgt := 120) C dX4_begins_102 (by decide) ?_
                          refine g_iastN C (mh_1 G) G.ge1 (by omega) (by omega) (mh_u1 G) dX4_begins_120 ?_
                          refine g_iinc (lv' := [(4, _), (0, _), (1, _), (2, _), (3, _)]) (t := 4) C dX4_begins_121 rfl (nI_1 _) (by decide) rfl ?_
                          refine g_goto (tgt := 46) C dX4_begins_124 (by decide) ?_
                          refine g_pick (lv' := [(0, _), (1, _), (2, _), (3, _), (4, _)]) [1, 2, 3, 4, 0] rfl ?_
                          refine g_heap (h' := mh h0 D g (fill (fun x => m_df ((x - 64) % 53)) (m_b1 s c r) 64 (64 + 53 * k + i + 1)) w a t b st ty) (by rw [fill_s (by omega) (by rw [m_df_at (by omega)]; first | exact (m_df_a (by omega)).symm | exact (m_df_b (by omega) (by omega)).symm | exact (m_df_c (by omega)).symm | exact (m_df_d (by omega)).symm | exact (m_df_e (by omega)).symm)]) ?_
                          exact ih3 (i + 1) (by omega) (by omega)
                      · refine g_iload C dX4_begins_86 4 rfl ?_
                        refine g_bipush C dX4_begins_88 kb_40 ?_
                        refine g_isubN C dX4_begins_90 (by omega) ?_
                        refine g_goto (tgt := 120) C dX4_begins_91 (by decide) ?_
                        refine g_iastN C (mh_1 G) G.ge1 (by omega) (by omega) (mh_u1 G) dX4_begins_120 ?_
                        refine g_iinc (lv' := [(4, _), (0, _), (1, _), (2, _), (3, _)]) (t := 4) C dX4_begins_121 rfl (nI_1 _) (by decide) rfl ?_
                        refine g_goto (tgt := 46) C dX4_begins_124 (by decide) ?_
                        refine g_pick (lv' := [(0, _), (1, _), (2, _), (3, _), (4, _)]) [1, 2, 3, 4, 0] rfl ?_
                        refine g_heap (h' := mh h0 D g (fill (fun x => m_df ((x - 64) % 53)) (m_b1 s c r) 64 (64 + 53 * k + i + 1)) w a t b st ty) (by rw [fill_s (by omega) (by rw [m_df_at (by omega)]; first | exact (m_df_a (by omega)).symm | exact (m_df_b (by omega) (by omega)).symm | exact (m_df_c (by omega)).symm | exact (m_df_d (by omega)).symm | exact (m_df_e (by omega)).symm)]) ?_
                        exact ih3 (i + 1) (by omega) (by omega)
                    · refine g_bipush C dX4_begins_74 kb_10 ?_
                      refine g_goto (tgt := 120) C dX4_begins_76 (by decide) ?_
                      refine g_iastN C (mh_1 G) G.ge1 (by omega) (by omega) (mh_u1 G) dX4_begins_120 ?_
                      refine g_iinc (lv' := [(4, _), (0, _), (1, _), (2, _), (3, _)]) (t := 4) C dX4_begins_121 rfl (nI_1 _) (by decide) rfl ?_
                      refine g_goto (tgt := 46) C dX4_begins_124 (by decide) ?_
                      refine g_pick (lv' := [(0, _), (1, _), (2, _), (3, _), (4, _)]) [1, 2, 3, 4, 0] rfl ?_
                      refine g_heap (h' := mh h0 D g (fill (fun x => m_df ((x - 64) % 53)) (m_b1 s c r) 64 (64 + 53 * k + i + 1)) w a t b st ty) (by rw [fill_s (by omega) (by rw [m_df_at (by omega)]; first | exact (m_df_a (by omega)).symm | exact (m_df_b (by omega) (by omega)).symm | exact (m_df_c (by omega)).symm | exact (m_df_d (by omega)).symm | exact (m_df_e (by omega)).symm)]) ?_
                      exact ih3 (i + 1) (by omega) (by omega)
              refine g_pick (lv' := [(0, _), (1, _), (2, _), (3, _), (4, _)]) [1, 2, 3, 4, 0] rfl ?_
              exact loop3 (53 + 1 - 0) 0 (by omega) (by omega)
        refine g_pick (lv' := [(0, _), (1, _), (2, _), (3, _)]) [1, 2, 3, 0] rfl ?_
        refine g_heap (h' := mh h0 D g (fill (fun x => m_df ((x - 64) % 53)) (m_b1 s c r) 64 (64 + 53 * 0)) w a t b st ty) (by rw [show i = 64 by omega]; show _ = mh h0 D g (fill _ _ 64 64) _ _ _ _ _ _; rw [fill_0]; rfl) ?_
        exact loop2 (36 + 1 - 0) 0 (by omega) (by omega)
      · refine g_aload_n C dX4_begins_22 rfl 0 rfl ?_
        refine g_get C in_X4 (mh_0 G) rfl 0 (by decide) q1160 (fun _ hx => hx) rfl dX4_begins_23 ?_
        refine g_iload_n C dX4_begins_26 rfl 3 rfl ?_
        refine g_iconst C dX4_begins_27 kc_0 ?_
        refine g_iastN C (mh_1 G) G.ge1 (by omega) (by omega) (mh_u1 G) dX4_begins_28 ?_
        refine g_iinc (lv' := [(3, _), (0, _), (1, _), (2, _)]) (t := 3) C dX4_begins_29 rfl (nI_1 _) (by decide) rfl ?_
        refine g_goto (tgt := 16) C dX4_begins_32 (by decide) ?_
        refine g_pick (lv' := [(0, _), (1, _), (2, _), (3, _)]) [1, 2, 3, 0] rfl ?_
        refine g_heap (h' := mh h0 D g (fill (fun _ => 0) (upd (upd s 0 (nI c)) 1 (nI r)) 4 (i + 1)) w a t b st ty) (by rw [fill_s (by omega) nI_0]) ?_
        exact ih (i + 1) (by omega) (by omega) (by omega)
  refine g_pick (lv' := [(0, _), (1, _), (2, _), (3, _)]) [1, 2, 3, 0] rfl ?_
  refine g_heap (h' := mh h0 D g (fill (fun _ => 0) (upd (upd s 0 (nI c)) 1 (nI r)) 4 4) w a t b st ty) (by rw [fill_0]) ?_
  exact loop (64 + 1 - 4) 4 (by omega) (by omega) (by omega)
theorem ok_X4_isGuarded : yX4_isGuarded.cls = "MapSheetsModel" ∧ yX4_isGuarded.cls ≠ "java/lang/invoke/MethodHandle" ∧ yX4_isGuarded.cls ≠ "java/lang/invoke/VarHandle" ∧ (parseMethodDescriptor yX4_isGuarded.desc).map (fun d => d.parameters.length) = some 0 := by decide +kernel
set_option maxHeartbeats 4000000 in
set_option maxRecDepth 100000 in
theorem met_X4_isGuarded {l : Launch} {D : va_G} {b0 n : Nat} {h0 : GH} {g : Nat → Nat} {s w a t b : Nat → Int32} {st ty : Int32} {c : Nat} {r : Nat}  (G : gM b0 g) (I : MI s c r) (V : MV s) : gMet l yX4_isGuarded cX4_isGuarded 3 ((some .boolean)) 6 138 0 0 D b0 (mh h0 D g s w a t b st ty) n [.ref (g 0)] (pI (fun r' h' n' => bI (m_gg s c r (m_ed c r)) = r' ∧ (mh h0 D g (m_lt s c r (m_ed c r)) w a t b st ty) = h' ∧ n = n')) := by
  refine gMet.of (lv := [(0, _)]) (by decide) (Nat.le_of_ble_eq_true rfl) rfl ?_
  intro p_ e_ U0 m_ args_ below_ meth_ co_ C hr hlk hnm
  have hI := m_ed_le I
  obtain ⟨I0, I1, I2, I3, I4, I5⟩ := id I
  refine g_iconst C dX4_isGuarded_0 kc_1 ?_
  refine g_topi (y := bI (m_gg s c r 0)) (show nI 1 = bI true by decide) ?_
  refine g_istore_n (lv' := [(1, _), (0, _)]) C dX4_isGuarded_1 rfl (by decide) rfl ?_
  refine g_iconst C dX4_isGuarded_2 kc_0 ?_
  refine g_istore_n (lv' := [(2, _), (1, _), (0, _)]) C dX4_isGuarded_3 rfl (by decide) rfl ?_
  have loop : ∀ (N_ i : Nat), i ≤ m_ed c r → m_ed c r < i + N_ → gW p_ l e_ (headSpec (ws_ yX4_isGuarded cX4_isGuarded 3 ((some .boolean))) (gRm 6 138 0 0)).room U0 m_ args_ below_ meth_ co_ (MQ below_ (gQc D b0 (pI (fun r' h' n' => bI (m_gg s c r (m_ed c r)) = r' ∧ (mh h0 D g (m_lt s c r (m_ed c r)) w a t b st ty) = h' ∧ n = n'))) args_ U0 0 0 (gA b0)) D b0 3 (mh h0 D g (m_lt s c r i) w a t b st ty) n 0 0 4 [(0, .ref (g 0)), (1, .int (bI (m_gg s c r i))), (2, .int (nI i))] [] := by
    intro N_
    induction N_ with
    | zero => intro i h1_ h2_; exact absurd h2_ (by omega)
    | succ N_ ih =>
      intro i h1_ h2_
      have I9 : MI (m_lt s c r i) c r := I.congr (m_lt_hi (by omega)) (m_lt_hi (by omega))
      have V9 : MV (m_lt s c r i) := V.congr (fun k hk => m_lt_hi (by omega))
      refine g_iload_n C dX4_isGuarded_4 rfl 2 rfl ?_
      refine g_aload_n C dX4_isGuarded_5 rfl 0 rfl ?_
      refine g_V0I C (met_X4_edges G I9) (cwV 0 C.2.2.2.2.1 (lw_V q1193 q1195 qs20 q79 q1196) rfl rfl rfl ok_X4_edges ⟨(Nat.le_of_ble_eq_true rfl), (Nat.le_of_ble_eq_true rfl)⟩) (mh_0 G) rfl (Nat.le_of_ble_eq_true rfl) dX4_isGuarded_6 ⟨(Nat.le_of_ble_eq_true rfl), (Nat.le_of_ble_eq_true rfl)⟩ (fun r_6 h_6 n_6 hp_6 hn_6 => ?_)
      obtain ⟨rfl, rfl, rfl⟩ := hp_6
      refine g_icmp_geN (tgt := 62) C dX4_isGuarded_9 (by decide) (by omega) (by omega) (fun c_9 => ?_) (fun c_9 => ?_)
      · refine g_iload_n C dX4_isGuarded_62 rfl 1 rfl ?_
        exact g_iret C hr hlk dX4_isGuarded_63 (Nat.le_of_ble_eq_true rfl) (Nat.le_of_ble_eq_true rfl) (bI_nar _) ⟨_, rfl, ⟨by rw [show i = m_ed c r by omega], by rw [show i = m_ed c r by omega], rfl⟩⟩
      · refine g_aload_n C dX4_isGuarded_12 rfl 0 rfl ?_
        refine g_iload_n C dX4_isGuarded_13 rfl 2 rfl ?_
        refine g_V1I C (met_X4_isAgreed G (by omega)) (cwV 1 C.2.2.2.2.1 (lw_V q1245 q1247 qs31 q79 q1248) rfl rfl rfl ok_X4_isAgreed ⟨(Nat.le_of_ble_eq_true rfl), (Nat.le_of_ble_eq_true rfl)⟩) (mh_0 G) rfl (Nat.le_of_ble_eq_true rfl) dX4_isGuarded_14 ⟨(Nat.le_of_ble_eq_true rfl), (Nat.le_of_ble_eq_true rfl)⟩ (fun r_14 h_14 n_14 hp_14 hn_14 => ?_)
        obtain ⟨rfl, rfl, rfl⟩ := hp_14
        refine g_if_eqB (tgt := 56) C dX4_isGuarded_17 (by decide) (fun c_17 => ?_) (fun c_17 => ?_)
        · have hb := m_bad_f1 c_17
          refine g_iinc (lv' := [(2, _), (0, _), (1, _)]) (t := 2) C dX4_isGuarded_56 rfl (nI_1 _) (by decide) rfl ?_
          refine g_goto (tgt := 4) C dX4_isGuarded_59 (by decide) ?_
          refine g_pick (lv' := [(0, _), (1, _), (2, _)]) [1, 2, 0] rfl ?_
          refine g_heap (h' := mh h0 D g (m_lt s c r (i + 1)) w a t b st ty) (by rw [← m_lt_s0 hb]) ?_
          refine g_eq (lv' := [(0, .ref (g 0)), (1, .int (bI (m_gg s c r (i + 1)))), (2, .int (nI (i + 1)))]) rfl (by rw [m_gg_n hb]) rfl ?_
          exact ih (i + 1) (by omega) (by omega)
        · refine g_aload_n C dX4_isGuarded_20 rfl 0 rfl ?_
          refine g_iload_n C dX4_isGuarded_21 rfl 2 rfl ?_
          refine g_V1I C (met_X4_quarrels G I9 V9 (by omega)) (cwV 1 C.2.2.2.2.1 (lw_V q1249 q1251 qs32 q79 q1252) rfl rfl rfl ok_X4_quarrels ⟨(Nat.le_of_ble_eq_true rfl), (Nat.le_of_ble_eq_true rfl)⟩) (mh_0 G) rfl (Nat.le_of_ble_eq_true rfl) dX4_isGuarded_22 ⟨(Nat.le_of_ble_eq_true rfl), (Nat.le_of_ble_eq_true rfl)⟩ (fun r_22 h_22 n_22 hp_22 hn_22 => ?_)
          obtain ⟨rfl, rfl, rfl⟩ := hp_22
          have hqn : m_qn (m_lt s c r i) c r i ≤ 10 := cnt_le _ _
          refine g_if_leN (tgt := 56) C dX4_isGuarded_25 (by decide) (by omega) (fun c_25 => ?_) (fun c_25 => ?_)
          · have hb := m_bad_f2 (by omega) c_25
            refine g_iinc (lv' := [(2, _), (0, _), (1, _)]) (t := 2) C dX4_isGuarded_56 rfl (nI_1 _) (by decide) rfl ?_
            refine g_goto (tgt := 4) C dX4_isGuarded_59 (by decide) ?_
            refine g_pick (lv' := [(0, _), (1, _), (2, _)]) [1, 2, 0] rfl ?_
            refine g_heap (h' := mh h0 D g (m_lt s c r (i + 1)) w a t b st ty) (by rw [← m_lt_s0 hb]) ?_
            refine g_eq (lv' := [(0, .ref (g 0)), (1, .int (bI (m_gg s c r (i + 1)))), (2, .int (nI (i + 1)))]) rfl (by rw [m_gg_n hb]) rfl ?_
            exact ih (i + 1) (by omega) (by omega)
          · have hb := m_bad_t (by omega) c_17 c_25
            refine g_iload_n C dX4_isGuarded_28 rfl 1 rfl ?_
            refine g_if_eqB (tgt := 45) C dX4_isGuarded_29 (by decide) (fun c_29 => ?_) (fun c_29 => ?_)
            · refine g_iconst C dX4_isGuarded_45 kc_0 ?_
              refine g_topi (y := bI (m_gg s c r (i + 1))) (bI_f (m_gg_a c_29)) ?_
              refine g_istore_n (lv' := [(1, _), (0, _), (2, _)]) C dX4_isGuarded_46 rfl (by decide) rfl ?_
              refine g_aload_n C dX4_isGuarded_47 rfl 1 rfl ?_
              refine g_get C in_X4 (mh_0 G) rfl 0 (by decide) q1160 (fun _ hx => hx) rfl dX4_isGuarded_48 ?_
              refine g_iconst C dX4_isGuarded_51 kc_4 ?_
              refine g_iload_n C dX4_isGuarded_52 rfl 2 rfl ?_
              refine g_iaddN C dX4_isGuarded_53 ?_
              refine g_iconst C dX4_isGuarded_54 kc_0 ?_
              refine g_iastN C (mh_1 G) G.ge1 (by omega) (by omega) (mh_u1 G) dX4_isGuarded_55 ?_
              refine g_iinc (lv' := [(2, _), (1, _), (0, _)]) (t := 2) C dX4_isGuarded_56 rfl (nI_1 _) (by decide) rfl ?_
              refine g_goto (tgt := 4) C dX4_isGuarded_59 (by decide) ?_
              refine g_pick (lv' := [(0, _), (1, _), (2, _)]) [2, 1, 0] rfl ?_
              refine g_heap (h' := mh h0 D g (m_lt s c r (i + 1)) w a t b st ty) (by rw [m_lt_s1 hb]) ?_
              exact ih (i + 1) (by omega) (by omega)
            · refine g_aload_n C dX4_isGuarded_32 rfl 0 rfl ?_
              refine g_get C in_X4 (mh_0 G) rfl 0 (by decide) q1160 (fun _ hx => hx) rfl dX4_isGuarded_33 ?_
              refine g_iconst C dX4_isGuarded_36 kc_2 ?_
              refine g_ialdN C (mh_1 G) (by omega) (by omega) dX4_isGuarded_37 ?_
              refine g_if_ne (tgt := 45) C dX4_isGuarded_38 (by decide) (fun c_38 => ?_) (fun c_38 => ?_)
              · refine g_iconst C dX4_isGuarded_45 kc_0 ?_
                refine g_topi (y := bI (m_gg s c r (i + 1))) (bI_f (m_gg_b hb c_38)) ?_
                refine g_istore_n (lv' := [(1, _), (0, _), (2, _)]) C dX4_isGuarded_46 rfl (by decide) rfl ?_
                refine g_aload_n C dX4_isGuarded_47 rfl 1 rfl ?_
                refine g_get C in_X4 (mh_0 G) rfl 0 (by decide) q1160 (fun _ hx => hx) rfl dX4_isGuarded_48 ?_
                refine g_iconst C dX4_isGuarded_51 kc_4 ?_
                refine g_iload_n C dX4_isGuarded_52 rfl 2 rfl ?_
                refine g_iaddN C dX4_isGuarded_53 ?_
                refine g_iconst C dX4_isGuarded_54 kc_0 ?_
                refine g_iastN C (mh_1 G) G.ge1 (by omega) (by omega) (mh_u1 G) dX4_isGuarded_55 ?_
                refine g_iinc (lv' := [(2, _), (1, _), (0, _)]) (t := 2) C dX4_isGuarded_56 rfl (nI_1 _) (by decide) rfl ?_
                refine g_goto (tgt := 4) C dX4_isGuarded_59 (by decide) ?_
                refine g_pick (lv' := [(0, _), (1, _), (2, _)]) [2, 1, 0] rfl ?_
                refine g_heap (h' := mh h0 D g (m_lt s c r (i + 1)) w a t b st ty) (by rw [m_lt_s1 hb]) ?_
                exact ih (i + 1) (by omega) (by omega)
              · refine g_iconst C dX4_isGuarded_41 kc_1 ?_
                refine g_goto (tgt := 46) C dX4_isGuarded_42 (by decide) ?_
                refine g_topi (y := bI (m_gg s c r (i + 1))) (bI_t (m_gg_c c_29 c_38)) ?_
                refine g_istore_n (lv' := [(1, _), (0, _), (2, _)]) C dX4_isGuarded_46 rfl (by decide) rfl ?_
                refine g_aload_n C dX4_isGuarded_47 rfl 1 rfl ?_
                refine g_get C in_X4 (mh_0 G) rfl 0 (by decide) q1160 (fun _ hx => hx) rfl dX4_isGuarded_48 ?_
                refine g_iconst C dX4_isGuarded_51 kc_4 ?_
                refine g_iload_n C dX4_isGuarded_52 rfl 2 rfl ?_
                refine g_iaddN C dX4_isGuarded_53 ?_
                refine g_iconst C dX4_isGuarded_54 kc_0 ?_
                refine g_iastN C (mh_1 G) G.ge1 (by omega) (by omega) (mh_u1 G) dX4_isGuarded_55 ?_
                refine g_iinc (lv' := [(2, _), (1, _), (0, _)]) (t := 2) C dX4_isGuarded_56 rfl (nI_1 _) (by decide) rfl ?_
                refine g_goto (tgt := 4) C dX4_isGuarded_59 (by decide) ?_
                refine g_pick (lv' := [(0, _), (1, _), (2, _)]) [2, 1, 0] rfl ?_
                refine g_heap (h' := mh h0 D g (m_lt s c r (i + 1)) w a t b st ty) (by rw [m_lt_s1 hb]) ?_
                exact ih (i + 1) (by omega) (by omega)
  refine g_pick (lv' := [(0, _), (1, _), (2, _)]) [2, 1, 0] rfl ?_
  refine g_heap (h' := mh h0 D g (m_lt s c r 0) w a t b st ty) (by rw [m_lt_0]) ?_
  exact loop (m_ed c r + 1 - 0) 0 (by omega) (by omega)
theorem ok_X4_keeps : yX4_keeps.cls = "MapSheetsModel" ∧ yX4_keeps.cls ≠ "java/lang/invoke/MethodHandle" ∧ yX4_keeps.cls ≠ "java/lang/invoke/VarHandle" ∧ (parseMethodDescriptor yX4_keeps.desc).map (fun d => d.parameters.length) = some 3 := by decide +kernel
set_option maxHeartbeats 4000000 in
set_option maxRecDepth 100000 in
theorem met_X4_keeps {l : Launch} {D : va_G} {b0 n : Nat} {h0 : GH} {g : Nat → Nat} {s w a t b : Nat → Int32} {ty : Int32} {c : Nat} {r : Nat} {q : Nat} {k : Nat} {rv : Bool} {x : Int32} (G : gM b0 g) (I : MI s c r) (V : MV s) (hq : q ≤ 4) (hk : k < 36) : gMet l yX4_keeps cX4_keeps 4 ((some .int)) 7 160 0 0 D b0 (mh h0 D g s w a t b (nI q) ty) n [.ref (g 0), .int (nI k), .int (bI rv), .int x] (pI (fun r' h' n' => (if m_gg s c r (m_ed c r) then x else -2) = r' ∧ (mh h0 D g (if m_gg s c r (m_ed c r) then (if rv then rev (m_lt s c r (m_ed c r)) k else (m_lt s c r (m_ed c r))) else fill a (m_lt s c r (m_ed c r)) 0 1972) (if m_gg s c r (m_ed c r) then m_rw w a q else w) a t b (nI (if m_gg s c r (m_ed c r) then m_rq q else q)) ty) = h' ∧ n = n')) := by
  refine gMet.of (lv := [(0, _), (1, _), (2, _), (3, _)]) (by decide) (Nat.le_of_ble_eq_true rfl) rfl ?_
  intro p_ e_ U0 m_ args_ below_ meth_ co_ C hr hlk hnm
  have hI := m_ed_le I
  obtain ⟨I0, I1, I2, I3, I4, I5⟩ := id I
  refine g_aload_n C dX4_keeps_0 rfl 0 rfl ?_
  refine g_V0I C (met_X4_isGuarded G I V) (cwV 0 C.2.2.2.2.1 (lw_V q1241 q1243 qs30 q79 q1244) rfl rfl rfl ok_X4_isGuarded ⟨(Nat.le_of_ble_eq_true rfl), (Nat.le_of_ble_eq_true rfl)⟩) (mh_0 G) rfl (Nat.le_of_ble_eq_true rfl) dX4_keeps_1 ⟨(Nat.le_of_ble_eq_true rfl), (Nat.le_of_ble_eq_true rfl)⟩ (fun r_1 h_1 n_1 hp_1 hn_1 => ?_)
  obtain ⟨rfl, rfl, rfl⟩ := hp_1
  refine g_if_neB (tgt := 14) C dX4_keeps_4 (by decide) (fun c_4 => ?_) (fun c_4 => ?_)
  · refine g_iload_n C dX4_keeps_14 rfl 2 rfl ?_
    refine g_if_eqB (tgt := 23) C dX4_keeps_15 (by decide) (fun c_15 => ?_) (fun c_15 => ?_)
    · refine g_aload_n C dX4_keeps_23 rfl 0 rfl ?_
      refine g_iload_n C dX4_keeps_24 rfl 3 rfl ?_
      refine g_V1I C (met_X4_records G (by omega)) (cwV 1 C.2.2.2.2.1 (lw_V q1201 q1203 qs22 q79 q1204) rfl rfl rfl ok_X4_records ⟨(Nat.le_of_ble_eq_true rfl), (Nat.le_of_ble_eq_true rfl)⟩) (mh_0 G) rfl (Nat.le_of_ble_eq_true rfl) dX4_keeps_25 ⟨(Nat.le_of_ble_eq_true rfl), (Nat.le_of_ble_eq_true rfl)⟩ (fun r_25 h_25 n_25 hp_25 hn_25 => ?_)
      obtain ⟨rfl, rfl, rfl⟩ := hp_25
      exact g_iret C hr hlk dX4_keeps_28 (Nat.le_of_ble_eq_true rfl) (Nat.le_of_ble_eq_true rfl) rfl ⟨_, rfl, ⟨by simp only [c_4, c_15, reduceIte], by simp only [c_4, c_15, reduceIte, Bool.false_eq_true], rfl⟩⟩
    · refine g_aload_n C dX4_keeps_18 rfl 0 rfl ?_
      refine g_iload_n C dX4_keeps_19 rfl 1 rfl ?_
      refine g_V1V C (met_X4_revises G (by omega)) (cwV 1 C.2.2.2.2.1 (lw_V q1285 q1287 qs41 q79 q1288) rfl rfl rfl ok_X4_revises ⟨(Nat.le_of_ble_eq_true rfl), (Nat.le_of_ble_eq_true rfl)⟩) (mh_0 G) rfl (Nat.le_of_ble_eq_true rfl) dX4_keeps_20 ⟨(Nat.le_of_ble_eq_true rfl), (Nat.le_of_ble_eq_true rfl)⟩ (fun h_20 n_20 hp_20 hn_20 => ?_)
      obtain ⟨rfl, rfl⟩ := hp_20
      refine g_aload_n C dX4_keeps_23 rfl 0 rfl ?_
      refine g_iload_n C dX4_keeps_24 rfl 3 rfl ?_
      refine g_V1I C (met_X4_records G (by omega)) (cwV 1 C.2.2.2.2.1 (lw_V q1201 q1203 qs22 q79 q1204) rfl rfl rfl ok_X4_records ⟨(Nat.le_of_ble_eq_true rfl), (Nat.le_of_ble_eq_true rfl)⟩) (mh_0 G) rfl (Nat.le_of_ble_eq_true rfl) dX4_keeps_25 ⟨(Nat.le_of_ble_eq_true rfl), (Nat.le_of_ble_eq_true rfl)⟩ (fun r_25 h_25 n_25 hp_25 hn_25 => ?_)
      obtain ⟨rfl, rfl, rfl⟩ := hp_25
      exact g_iret C hr hlk dX4_keeps_28 (Nat.le_of_ble_eq_true rfl) (Nat.le_of_ble_eq_true rfl) rfl ⟨_, rfl, ⟨by simp only [c_4, c_15, reduceIte], by simp only [c_4, c_15, reduceIte, Bool.false_eq_true], rfl⟩⟩
  · refine g_aload_n C dX4_keeps_7 rfl 0 rfl ?_
    refine g_V0V C (met_X4_restore G) (cwV 0 C.2.2.2.2.1 (lw_V q1281 q1283 qs40 q79 q1284) rfl rfl rfl ok_X4_restore ⟨(Nat.le_of_ble_eq_true rfl), (Nat.le_of_ble_eq_true rfl)⟩) (mh_0 G) rfl (Nat.le_of_ble_eq_true rfl) dX4_keeps_8 ⟨(Nat.le_of_ble_eq_true rfl), (Nat.le_of_ble_eq_true rfl)⟩ (fun h_8 n_8 hp_8 hn_8 => ?_)
    obtain ⟨rfl, rfl⟩ := hp_8
    refine g_bipush C dX4_keeps_11 kb_m2 ?_
    exact g_iret C hr hlk dX4_keeps_13 (Nat.le_of_ble_eq_true rfl) (Nat.le_of_ble_eq_true rfl) rfl ⟨_, rfl, ⟨by rw [c_4]; rfl, by rw [c_4]; rfl, rfl⟩⟩
