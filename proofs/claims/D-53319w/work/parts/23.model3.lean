theorem ok_X4_hold : yX4_hold.cls = "MapSheetsModel" ∧ yX4_hold.cls ≠ "java/lang/invoke/MethodHandle" ∧ yX4_hold.cls ≠ "java/lang/invoke/VarHandle" ∧ (parseMethodDescriptor yX4_hold.desc).map (fun d => d.parameters.length) = some 0 := by decide +kernel
set_option maxHeartbeats 4000000 in
set_option maxRecDepth 100000 in
theorem met_X4_hold {l : Launch} {D : va_G} {b0 n : Nat} {h0 : GH} {g : Nat → Nat} {s w a t b : Nat → Int32} {st ty : Int32}  (G : gM b0 g)  : gMet l yX4_hold cX4_hold 2 (none) 0 0 0 0 D b0 (mh h0 D g s w a t b st ty) n [.ref (g 0)] (pV (fun h' n' => (mh h0 D g s w (fill s a 0 1972) t b st ty) = h' ∧ n = n')) := by
  refine gMet.of (lv := [(0, _)]) (by decide) (Nat.le_of_ble_eq_true rfl) rfl ?_
  intro p_ e_ U0 m_ args_ below_ meth_ co_ C hr hlk hnm
  refine g_iconst C dX4_hold_0 kc_0 ?_
  refine g_istore_n (lv' := [(1, _), (0, _)]) C dX4_hold_1 rfl (by decide) rfl ?_
  have loop : ∀ (N_ i : Nat), i ≤ 1972 → 1972 < i + N_ → gW p_ l e_ (headSpec (ws_ yX4_hold cX4_hold 2 (none)) (gRm 0 0 0 0)).room U0 m_ args_ below_ meth_ co_ (MQ below_ (gQc D b0 (pV (fun h' n' => (mh h0 D g s w (fill s a 0 1972) t b st ty) = h' ∧ n = n'))) args_ U0 0 0 (gA b0)) D b0 2 (mh h0 D g s w (fill s a 0 i) t b st ty) n 0 0 2 [(0, .ref (g 0)), (1, .int (nI i))] [] := by
    intro N_
    induction N_ with
    | zero => intro i  h1_ h2_; exact absurd h2_ (by omega)
    | succ N_ ih =>
      intro i  h1_ h2_
      refine g_iload_n C dX4_hold_2 rfl 1 rfl ?_
      refine g_sipush C dX4_hold_3 ks_1972 ?_
      refine g_icmp_geN (tgt := 27) C dX4_hold_6 (by decide) (by omega) (by omega) (fun c_6 => ?_) (fun c_6 => ?_)
      · exact g_vret C hr hlk dX4_hold_27 (Nat.le_of_ble_eq_true rfl) (Nat.le_of_ble_eq_true rfl) ⟨rfl, by rw [show i = 1972 by omega], rfl⟩
      · refine g_aload_n C dX4_hold_9 rfl 0 rfl ?_
        refine g_get C in_X4 (mh_0 G) rfl 2 (by decide) q1162 (fun _ hx => hx) rfl dX4_hold_10 ?_
        refine g_iload_n C dX4_hold_13 rfl 1 rfl ?_
        refine g_aload_n C dX4_hold_14 rfl 0 rfl ?_
        refine g_get C in_X4 (mh_0 G) rfl 0 (by decide) q1160 (fun _ hx => hx) rfl dX4_hold_15 ?_
        refine g_iload_n C dX4_hold_18 rfl 1 rfl ?_
        refine g_ialdN C (mh_1 G) (by omega) (by omega) dX4_hold_19 ?_
        refine g_iastN C (mh_3 G) G.ge3 (by omega) (by omega) (mh_u3 G) dX4_hold_20 ?_
        refine g_iinc (lv' := [(1, _), (0, _)]) (t := 1) C dX4_hold_21 rfl (nI_1 _) (by decide) rfl ?_
        refine g_goto (tgt := 2) C dX4_hold_24 (by decide) ?_
        refine g_pick (lv' := [(0, _), (1, _)]) [1, 0] rfl ?_
        refine g_heap (h' := (mh h0 D g s w (fill s a 0 (i + 1)) t b st ty)) (by rw [fill_s (by omega) rfl]) ?_
        exact ih (i + 1) (by omega) (by omega)
  refine g_pick (lv' := [(0, _), (1, _)]) [1, 0] rfl ?_
  refine g_heap (h' := (mh h0 D g s w (fill s a 0 0) t b st ty)) (by rw [fill_0]) ?_
  exact loop (1972 + 1) 0  (by omega) (by omega)
theorem ok_X4_restore : yX4_restore.cls = "MapSheetsModel" ∧ yX4_restore.cls ≠ "java/lang/invoke/MethodHandle" ∧ yX4_restore.cls ≠ "java/lang/invoke/VarHandle" ∧ (parseMethodDescriptor yX4_restore.desc).map (fun d => d.parameters.length) = some 0 := by decide +kernel
set_option maxHeartbeats 4000000 in
set_option maxRecDepth 100000 in
theorem met_X4_restore {l : Launch} {D : va_G} {b0 n : Nat} {h0 : GH} {g : Nat → Nat} {s w a t b : Nat → Int32} {st ty : Int32}  (G : gM b0 g)  : gMet l yX4_restore cX4_restore 2 (none) 0 0 0 0 D b0 (mh h0 D g s w a t b st ty) n [.ref (g 0)] (pV (fun h' n' => (mh h0 D g (fill a s 0 1972) w a t b st ty) = h' ∧ n = n')) := by
  refine gMet.of (lv := [(0, _)]) (by decide) (Nat.le_of_ble_eq_true rfl) rfl ?_
  intro p_ e_ U0 m_ args_ below_ meth_ co_ C hr hlk hnm
  refine g_iconst C dX4_restore_0 kc_0 ?_
  refine g_istore_n (lv' := [(1, _), (0, _)]) C dX4_restore_1 rfl (by decide) rfl ?_
  have loop : ∀ (N_ i : Nat), i ≤ 1972 → 1972 < i + N_ → gW p_ l e_ (headSpec (ws_ yX4_restore cX4_restore 2 (none)) (gRm 0 0 0 0)).room U0 m_ args_ below_ meth_ co_ (MQ below_ (gQc D b0 (pV (fun h' n' => (mh h0 D g (fill a s 0 1972) w a t b st ty) = h' ∧ n = n'))) args_ U0 0 0 (gA b0)) D b0 2 (mh h0 D g (fill a s 0 i) w a t b st ty) n 0 0 2 [(0, .ref (g 0)), (1, .int (nI i))] [] := by
    intro N_
    induction N_ with
    | zero => intro i  h1_ h2_; exact absurd h2_ (by omega)
    | succ N_ ih =>
      intro i  h1_ h2_
      refine g_iload_n C dX4_restore_2 rfl 1 rfl ?_
      refine g_sipush C dX4_restore_3 ks_1972 ?_
      refine g_icmp_geN (tgt := 27) C dX4_restore_6 (by decide) (by omega) (by omega) (fun c_6 => ?_) (fun c_6 => ?_)
      · exact g_vret C hr hlk dX4_restore_27 (Nat.le_of_ble_eq_true rfl) (Nat.le_of_ble_eq_true rfl) ⟨rfl, by rw [show i = 1972 by omega], rfl⟩
      · refine g_aload_n C dX4_restore_9 rfl 0 rfl ?_
        refine g_get C in_X4 (mh_0 G) rfl 0 (by decide) q1160 (fun _ hx => hx) rfl dX4_restore_10 ?_
        refine g_iload_n C dX4_restore_13 rfl 1 rfl ?_
        refine g_aload_n C dX4_restore_14 rfl 0 rfl ?_
        refine g_get C in_X4 (mh_0 G) rfl 2 (by decide) q1162 (fun _ hx => hx) rfl dX4_restore_15 ?_
        refine g_iload_n C dX4_restore_18 rfl 1 rfl ?_
        refine g_ialdN C (mh_3 G) (by omega) (by omega) dX4_restore_19 ?_
        refine g_iastN C (mh_1 G) G.ge1 (by omega) (by omega) (mh_u1 G) dX4_restore_20 ?_
        refine g_iinc (lv' := [(1, _), (0, _)]) (t := 1) C dX4_restore_21 rfl (nI_1 _) (by decide) rfl ?_
        refine g_goto (tgt := 2) C dX4_restore_24 (by decide) ?_
        refine g_pick (lv' := [(0, _), (1, _)]) [1, 0] rfl ?_
        refine g_heap (h' := (mh h0 D g (fill a s 0 (i + 1)) w a t b st ty)) (by rw [fill_s (by omega) rfl]) ?_
        exact ih (i + 1) (by omega) (by omega)
  refine g_pick (lv' := [(0, _), (1, _)]) [1, 0] rfl ?_
  refine g_heap (h' := (mh h0 D g (fill a s 0 0) w a t b st ty)) (by rw [fill_0]) ?_
  exact loop (1972 + 1) 0  (by omega) (by omega)
theorem ok_X4_records : yX4_records.cls = "MapSheetsModel" ∧ yX4_records.cls ≠ "java/lang/invoke/MethodHandle" ∧ yX4_records.cls ≠ "java/lang/invoke/VarHandle" ∧ (parseMethodDescriptor yX4_records.desc).map (fun d => d.parameters.length) = some 1 := by decide +kernel
set_option maxHeartbeats 4000000 in
set_option maxRecDepth 100000 in
theorem met_X4_records {l : Launch} {D : va_G} {b0 n : Nat} {h0 : GH} {g : Nat → Nat} {s w a t b : Nat → Int32} {ty : Int32} {q : Nat} {x : Int32} (G : gM b0 g) (hq : q ≤ 4) : gMet l yX4_records cX4_records 3 ((some .int)) 0 0 0 0 D b0 (mh h0 D g s w a t b (nI q) ty) n [.ref (g 0), .int x] (pI (fun r' h' n' => x = r' ∧ (mh h0 D g s (m_rw w a q) a t b (nI (m_rq q)) ty) = h' ∧ n = n')) := by
  refine gMet.of (lv := [(0, _), (1, _)]) (by decide) (Nat.le_of_ble_eq_true rfl) rfl ?_
  intro p_ e_ U0 m_ args_ below_ meth_ co_ C hr hlk hnm
  have J49 : ∀ (w1 : Nat → Int32) (q1 : Nat), q1 ≤ 3 → m_put w1 a q1 = m_rw w a q → q1 + 1 = m_rq q → gW p_ l e_ (headSpec (ws_ yX4_records cX4_records 3 ((some .int))) (gRm 0 0 0 0)).room U0 m_ args_ below_ meth_ co_ (MQ below_ (gQc D b0 (pI (fun r' h' n' => x = r' ∧ (mh h0 D g s (m_rw w a q) a t b (nI (m_rq q)) ty) = h' ∧ n = n'))) args_ U0 0 0 (gA b0)) D b0 3 (mh h0 D g s w1 a t b (nI q1) ty) n 0 0 49 [(0, .ref (g 0)), (1, .int x)] [] := by
    intro w1 q1 hq1 hw1 hq2
    refine g_iconst C dX4_records_49 kc_0 ?_
    refine g_istore_n (lv' := [(2, _), (0, _), (1, _)]) C dX4_records_50 rfl (by decide) rfl ?_
    have loop2 : ∀ (N_ i : Nat), i ≤ 1972 → 1972 < i + N_ → gW p_ l e_ (headSpec (ws_ yX4_records cX4_records 3 ((some .int))) (gRm 0 0 0 0)).room U0 m_ args_ below_ meth_ co_ (MQ below_ (gQc D b0 (pI (fun r' h' n' => x = r' ∧ (mh h0 D g s (m_rw w a q) a t b (nI (m_rq q)) ty) = h' ∧ n = n'))) args_ U0 0 0 (gA b0)) D b0 3 (mh h0 D g s (fill (fun x => a (x - 1972 * q1)) w1 (1972 * q1) (1972 * q1 + i)) a t b (nI q1) ty) n 0 0 51 [(0, .ref (g 0)), (1, .int x), (2, .int (nI i))] [] := by
      intro N_
      induction N_ with
      | zero => intro i  h1_ h2_; exact absurd h2_ (by omega)
      | succ N_ ih =>
        intro i  h1_ h2_
        refine g_iload_n C dX4_records_51 rfl 2 rfl ?_
        refine g_sipush C dX4_records_52 ks_1972 ?_
        refine g_icmp_geN (tgt := 85) C dX4_records_55 (by decide) (by omega) (by omega) (fun c_55 => ?_) (fun c_55 => ?_)
        · refine g_aload_n C dX4_records_85 rfl 0 rfl ?_
          refine g_dup C dX4_records_86 rfl ?_
          refine g_get C in_X4 (mh_0 G) rfl 3 (by decide) q1163 (fun _ hx => hx) rfl dX4_records_87 ?_
          refine g_iconst C dX4_records_90 kc_1 ?_
          refine g_iaddN C dX4_records_91 ?_
          refine g_put C in_X4 tyX4 tyX4_ok nmX4 (mh_0 G) G.ge0 rfl 3 (by decide) q1163 (fun _ hx => hx) rfl rfl rfl rfl (Nat.le_of_ble_eq_true rfl) (mh_u0 G) dX4_records_92 ?_
          refine g_iload_n C dX4_records_95 rfl 1 rfl ?_
          exact g_iret C hr hlk dX4_records_96 (Nat.le_of_ble_eq_true rfl) (Nat.le_of_ble_eq_true rfl) rfl ⟨_, rfl, ⟨rfl, by rw [show i = 1972 by omega, ← hw1, ← hq2]; rfl, rfl⟩⟩
        · refine g_aload_n C dX4_records_58 rfl 0 rfl ?_
          refine g_get C in_X4 (mh_0 G) rfl 1 (by decide) q1161 (fun _ hx => hx) rfl dX4_records_59 ?_
          refine g_sipush C dX4_records_62 ks_1972 ?_
          refine g_aload_n C dX4_records_65 rfl 0 rfl ?_
          refine g_get C in_X4 (mh_0 G) rfl 3 (by decide) q1163 (fun _ hx => hx) rfl dX4_records_66 ?_
          refine g_imulN C dX4_records_69 ?_
          refine g_iload_n C dX4_records_70 rfl 2 rfl ?_
          refine g_iaddN C dX4_records_71 ?_
          refine g_aload_n C dX4_records_72 rfl 0 rfl ?_
          refine g_get C in_X4 (mh_0 G) rfl 2 (by decide) q1162 (fun _ hx => hx) rfl dX4_records_73 ?_
          refine g_iload_n C dX4_records_76 rfl 2 rfl ?_
          refine g_ialdN C (mh_3 G) (by omega) (by omega) dX4_records_77 ?_
          refine g_iastN C (mh_2 G) G.ge2 (by omega) (by omega) (mh_u2 G) dX4_records_78 ?_
          refine g_iinc (lv' := [(2, _), (0, _), (1, _)]) (t := 2) C dX4_records_79 rfl (nI_1 _) (by decide) rfl ?_
          refine g_goto (tgt := 51) C dX4_records_82 (by decide) ?_
          refine g_pick (lv' := [(0, _), (1, _), (2, _)]) [1, 2, 0] rfl ?_
          refine g_heap (h' := (mh h0 D g s (fill (fun x => a (x - 1972 * q1)) w1 (1972 * q1) (1972 * q1 + (i + 1))) a t b (nI q1) ty)) (by rw [fill_s (by omega) (by rw [Nat.add_sub_cancel_left]), Nat.add_assoc]) ?_
          exact ih (i + 1) (by omega) (by omega)
    refine g_pick (lv' := [(0, _), (1, _), (2, _)]) [1, 2, 0] rfl ?_
    refine g_heap (h' := (mh h0 D g s (fill (fun x => a (x - 1972 * q1)) w1 (1972 * q1) (1972 * q1 + 0)) a t b (nI q1) ty)) (by rw [Nat.add_zero, fill_0]) ?_
    exact loop2 (1972 + 1) 0  (by omega) (by omega)
  refine g_aload_n C dX4_records_0 rfl 0 rfl ?_
  refine g_get C in_X4 (mh_0 G) rfl 3 (by decide) q1163 (fun _ hx => hx) rfl dX4_records_1 ?_
  refine g_iconst C dX4_records_4 kc_4 ?_
  refine g_icmp_neN (tgt := 49) C dX4_records_5 (by decide) (by omega) (by omega) (fun c_5 => ?_) (fun c_5 => ?_)
  · exact J49 w q (by omega) (by unfold m_rw; rw [if_neg c_5]) (by unfold m_rq; rw [if_neg c_5])
  · refine g_iconst C dX4_records_8 kc_0 ?_
    refine g_istore_n (lv' := [(2, _), (0, _), (1, _)]) C dX4_records_9 rfl (by decide) rfl ?_
    have loop : ∀ (N_ i : Nat), i ≤ 5916 → 5916 < i + N_ → gW p_ l e_ (headSpec (ws_ yX4_records cX4_records 3 ((some .int))) (gRm 0 0 0 0)).room U0 m_ args_ below_ meth_ co_ (MQ below_ (gQc D b0 (pI (fun r' h' n' => x = r' ∧ (mh h0 D g s (m_rw w a q) a t b (nI (m_rq q)) ty) = h' ∧ n = n'))) args_ U0 0 0 (gA b0)) D b0 3 (mh h0 D g s (fill (fun x => w (x + 1972)) w 0 i) a t b (nI q) ty) n 0 0 10 [(0, .ref (g 0)), (1, .int x), (2, .int (nI i))] [] := by
      intro N_
      induction N_ with
      | zero => intro i  h1_ h2_; exact absurd h2_ (by omega)
      | succ N_ ih =>
        intro i  h1_ h2_
        refine g_iload_n C dX4_records_10 rfl 2 rfl ?_
        refine g_sipush C dX4_records_11 ks_5916 ?_
        refine g_icmp_geN (tgt := 39) C dX4_records_14 (by decide) (by omega) (by omega) (fun c_14 => ?_) (fun c_14 => ?_)
        · refine g_aload_n C dX4_records_39 rfl 0 rfl ?_
          refine g_dup C dX4_records_40 rfl ?_
          refine g_get C in_X4 (mh_0 G) rfl 3 (by decide) q1163 (fun _ hx => hx) rfl dX4_records_41 ?_
          refine g_iconst C dX4_records_44 kc_1 ?_
          refine g_isubN C dX4_records_45 (by omega) ?_
          refine g_put C in_X4 tyX4 tyX4_ok nmX4 (mh_0 G) G.ge0 rfl 3 (by decide) q1163 (fun _ hx => hx) rfl rfl rfl rfl (Nat.le_of_ble_eq_true rfl) (mh_u0 G) dX4_records_46 ?_
          refine g_pick (lv' := [(0, _), (1, _)]) [0, 1] rfl ?_
          exact J49 _ (q - 1) (by omega) (by subst c_5; unfold m_rw m_sh; rw [if_pos rfl, show i = 5916 by omega]) (by subst c_5; rfl)
        · refine g_aload_n C dX4_records_17 rfl 0 rfl ?_
          refine g_get C in_X4 (mh_0 G) rfl 1 (by decide) q1161 (fun _ hx => hx) rfl dX4_records_18 ?_
          refine g_iload_n C dX4_records_21 rfl 2 rfl ?_
          refine g_aload_n C dX4_records_22 rfl 0 rfl ?_
          refine g_get C in_X4 (mh_0 G) rfl 1 (by decide) q1161 (fun _ hx => hx) rfl dX4_records_23 ?_
          refine g_iload_n C dX4_records_26 rfl 2 rfl ?_
          refine g_sipush C dX4_records_27 ks_1972 ?_
          refine g_iaddN C dX4_records_30 ?_
          refine g_ialdN C (mh_2 G) (by omega) (by omega) dX4_records_31 ?_
          refine g_iastN C (mh_2 G) G.ge2 (by omega) (by omega) (mh_u2 G) dX4_records_32 ?_
          refine g_iinc (lv' := [(2, _), (0, _), (1, _)]) (t := 2) C dX4_records_33 rfl (nI_1 _) (by decide) rfl ?_
          refine g_goto (tgt := 10) C dX4_records_36 (by decide) ?_
          refine g_pick (lv' := [(0, _), (1, _), (2, _)]) [1, 2, 0] rfl ?_
          refine g_heap (h' := (mh h0 D g s (fill (fun x => w (x + 1972)) w 0 (i + 1)) a t b (nI q) ty)) (by rw [fill_s (by omega) (by rw [fill_out (by omega)])]) ?_
          exact ih (i + 1) (by omega) (by omega)
    refine g_pick (lv' := [(0, _), (1, _), (2, _)]) [1, 2, 0] rfl ?_
    refine g_heap (h' := (mh h0 D g s (fill (fun x => w (x + 1972)) w 0 0) a t b (nI q) ty)) (by rw [fill_0]) ?_
    exact loop (5916 + 1) 0  (by omega) (by omega)
