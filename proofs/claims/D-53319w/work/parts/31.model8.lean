theorem ok_X4_signFor : yX4_signFor.cls = "MapSheetsModel" ∧ yX4_signFor.cls ≠ "java/lang/invoke/MethodHandle" ∧ yX4_signFor.cls ≠ "java/lang/invoke/VarHandle" ∧ (parseMethodDescriptor yX4_signFor.desc).map (fun d => d.parameters.length) = some 3 := by decide +kernel
set_option maxHeartbeats 4000000 in
set_option maxRecDepth 100000 in
theorem met_X4_signFor {l : Launch} {D : va_G} {b0 n : Nat} {h0 : GH} {g : Nat → Nat} {s w a t b : Nat → Int32} {st ty : Int32} {k : Nat} {v : Nat} {m : Nat} (G : gM b0 g) (V : MV s) (hk : k < 36) (hv : v ≤ 10) (hm : m ≤ 10) : gMet l yX4_signFor cX4_signFor 5 ((some .int)) 1 22 0 0 D b0 (mh h0 D g s w a t b st ty) n [.ref (g 0), .int (nI k), .int (nI v), .int (nI m)] (pI (fun r' h' n' => m_sf s k v m = r' ∧ (mh h0 D g s w a t b st ty) = h' ∧ n = n')) := by
  refine gMet.of (lv := [(0, _), (1, _), (2, _), (3, _)]) (by decide) (Nat.le_of_ble_eq_true rfl) rfl ?_
  intro p_ e_ U0 m_ args_ below_ meth_ co_ C hr hlk hnm
  have J38 : m_sf s k v m = m_fd s k m 10 0 → gW p_ l e_ (headSpec (ws_ yX4_signFor cX4_signFor 5 ((some .int))) (gRm 1 22 0 0)).room U0 m_ args_ below_ meth_ co_ (MQ below_ (gQc D b0 (pI (fun r' h' n' => m_sf s k v m = r' ∧ (mh h0 D g s w a t b st ty) = h' ∧ n = n'))) args_ U0 0 0 (gA b0)) D b0 5 (mh h0 D g s w a t b st ty) n 0 0 38 [(0, .ref (g 0)), (1, .int (nI k)), (2, .int (nI v)), (3, .int (nI m))] [] := by
    intro hsf
    refine g_iconst C dX4_signFor_38 kc_0 ?_
    refine g_istore (lv' := [(4, _), (0, _), (1, _), (2, _), (3, _)]) C dX4_signFor_39 (by decide) rfl ?_
    have loop : ∀ (N_ i : Nat), i ≤ 10 → 10 < i + N_ → m_fd s k m 10 0 = m_fd s k m (10 - i) i → gW p_ l e_ (headSpec (ws_ yX4_signFor cX4_signFor 5 ((some .int))) (gRm 1 22 0 0)).room U0 m_ args_ below_ meth_ co_ (MQ below_ (gQc D b0 (pI (fun r' h' n' => m_sf s k v m = r' ∧ (mh h0 D g s w a t b st ty) = h' ∧ n = n'))) args_ U0 0 0 (gA b0)) D b0 5 (mh h0 D g s w a t b st ty) n 0 0 41 [(0, .ref (g 0)), (1, .int (nI k)), (2, .int (nI v)), (3, .int (nI m)), (4, .int (nI i))] [] := by
      intro N_
      induction N_ with
      | zero => intro i h1_ h2_; exact absurd h2_ (by omega)
      | succ N_ ih =>
        intro i h1_ h2_ hinv
        refine g_iload C dX4_signFor_41 4 rfl ?_
        refine g_bipush C dX4_signFor_43 kb_10 ?_
        refine g_icmp_geN (tgt := 71) C dX4_signFor_45 (by decide) (by omega) (by omega) (fun c_45 => ?_) (fun c_45 => ?_)
        · refine g_bipush C dX4_signFor_71 kb_m4 ?_
          exact g_iret C hr hlk dX4_signFor_73 (Nat.le_of_ble_eq_true rfl) (Nat.le_of_ble_eq_true rfl) rfl ⟨_, rfl, ⟨by rw [hsf, hinv, show 10 - i = 0 by omega]; rfl, rfl, rfl⟩⟩
        · have v3 := V.2 k hk i (by omega)
          refine g_aload_n C dX4_signFor_48 rfl 0 rfl ?_
          refine g_iload_n C dX4_signFor_49 rfl 1 rfl ?_
          refine g_bipush C dX4_signFor_50 kb_40 ?_
          refine g_iload C dX4_signFor_52 4 rfl ?_
          refine g_iaddN C dX4_signFor_54 ?_
          refine g_V2I C (met_X4_of G (by omega) (by omega)) (cwV 2 C.2.2.2.2.1 (lw_V q1229 q1231 qs27 q79 q1232) rfl rfl rfl ok_X4_of ⟨(Nat.le_of_ble_eq_true rfl), (Nat.le_of_ble_eq_true rfl)⟩) (mh_0 G) rfl (Nat.le_of_ble_eq_true rfl) dX4_signFor_55 ⟨(Nat.le_of_ble_eq_true rfl), (Nat.le_of_ble_eq_true rfl)⟩ (fun r_55 h_55 n_55 hp_55 hn_55 => ?_)
          obtain ⟨rfl, rfl, rfl⟩ := hp_55
          refine g_topi (y := nI (sv s (ix k (40 + i)))) v3.1 ?_
          refine g_iload_n C dX4_signFor_58 rfl 3 rfl ?_
          refine g_icmp_neN (tgt := 65) C dX4_signFor_59 (by decide) (by omega) (by omega) (fun c_59 => ?_) (fun c_59 => ?_)
          · refine g_iinc (lv' := [(4, _), (0, _), (1, _), (2, _), (3, _)]) (t := 4) C dX4_signFor_65 rfl (nI_1 _) (by decide) rfl ?_
            refine g_goto (tgt := 41) C dX4_signFor_68 (by decide) ?_
            refine g_pick (lv' := [(0, _), (1, _), (2, _), (3, _), (4, _)]) [1, 2, 3, 4, 0] rfl ?_
            exact ih (i + 1) (by omega) (by omega) (by rw [hinv, show 10 - i = (10 - (i + 1)) + 1 by omega]; show (if _ then _ else _) = _; rw [if_neg c_59])
          · refine g_iload C dX4_signFor_62 4 rfl ?_
            exact g_iret C hr hlk dX4_signFor_64 (Nat.le_of_ble_eq_true rfl) (Nat.le_of_ble_eq_true rfl) rfl ⟨_, rfl, ⟨by rw [hsf, hinv, show 10 - i = (10 - (i + 1)) + 1 by omega]; show (if _ then _ else _) = _; rw [if_pos c_59], rfl, rfl⟩⟩
    refine g_pick (lv' := [(0, _), (1, _), (2, _), (3, _), (4, _)]) [1, 2, 3, 4, 0] rfl ?_
    exact loop 11 0 (by omega) (by omega) rfl
  refine g_iload_n C dX4_signFor_0 rfl 3 rfl ?_
  refine g_bipush C dX4_signFor_1 kb_10 ?_
  refine g_icmp_eqN (tgt := 25) C dX4_signFor_3 (by decide) (by omega) (by omega) (fun c_3 => ?_) (fun c_3 => ?_)
  · refine g_iload_n C dX4_signFor_25 rfl 3 rfl ?_
    refine g_bipush C dX4_signFor_26 kb_10 ?_
    refine g_icmp_neN (tgt := 36) C dX4_signFor_28 (by decide) (by omega) (by omega) (fun c_28 => absurd c_28 (by omega)) (fun c_28 => ?_)
    refine g_bipush C dX4_signFor_31 kb_10 ?_
    refine g_goto (tgt := 37) C dX4_signFor_33 (by decide) ?_
    exact g_iret C hr hlk dX4_signFor_37 (Nat.le_of_ble_eq_true rfl) (Nat.le_of_ble_eq_true rfl) rfl ⟨_, rfl, ⟨by unfold m_sf; rw [if_pos c_3], rfl, rfl⟩⟩
  · refine g_iload_n C dX4_signFor_6 rfl 2 rfl ?_
    refine g_bipush C dX4_signFor_7 kb_10 ?_
    refine g_icmp_eqN (tgt := 38) C dX4_signFor_9 (by decide) (by omega) (by omega) (fun c_9 => ?_) (fun c_9 => ?_)
    · exact J38 (by unfold m_sf; rw [if_neg c_3, if_neg (fun z => z.1 c_9)])
    · have v2 := V.2 k hk v (by omega)
      refine g_aload_n C dX4_signFor_12 rfl 0 rfl ?_
      refine g_iload_n C dX4_signFor_13 rfl 1 rfl ?_
      refine g_bipush C dX4_signFor_14 kb_40 ?_
      refine g_iload_n C dX4_signFor_16 rfl 2 rfl ?_
      refine g_iaddN C dX4_signFor_17 ?_
      refine g_V2I C (met_X4_of G (by omega) (by omega)) (cwV 2 C.2.2.2.2.1 (lw_V q1229 q1231 qs27 q79 q1232) rfl rfl rfl ok_X4_of ⟨(Nat.le_of_ble_eq_true rfl), (Nat.le_of_ble_eq_true rfl)⟩) (mh_0 G) rfl (Nat.le_of_ble_eq_true rfl) dX4_signFor_18 ⟨(Nat.le_of_ble_eq_true rfl), (Nat.le_of_ble_eq_true rfl)⟩ (fun r_18 h_18 n_18 hp_18 hn_18 => ?_)
      obtain ⟨rfl, rfl, rfl⟩ := hp_18
      refine g_topi (y := nI (sv s (ix k (40 + v)))) v2.1 ?_
      refine g_iload_n C dX4_signFor_21 rfl 3 rfl ?_
      refine g_icmp_neN (tgt := 38) C dX4_signFor_22 (by decide) (by omega) (by omega) (fun c_22 => ?_) (fun c_22 => ?_)
      · exact J38 (by unfold m_sf; rw [if_neg c_3, if_neg (fun z => c_22 z.2)])
      · refine g_iload_n C dX4_signFor_25 rfl 3 rfl ?_
        refine g_bipush C dX4_signFor_26 kb_10 ?_
        refine g_icmp_neN (tgt := 36) C dX4_signFor_28 (by decide) (by omega) (by omega) (fun c_28 => ?_) (fun c_28 => absurd c_28 (by omega))
        refine g_iload_n C dX4_signFor_36 rfl 2 rfl ?_
        exact g_iret C hr hlk dX4_signFor_37 (Nat.le_of_ble_eq_true rfl) (Nat.le_of_ble_eq_true rfl) rfl ⟨_, rfl, ⟨by unfold m_sf; rw [if_neg c_3, if_pos ⟨c_9, c_22⟩], rfl, rfl⟩⟩
theorem ok_X4_read : yX4_read.cls = "MapSheetsModel" ∧ yX4_read.cls ≠ "java/lang/invoke/MethodHandle" ∧ yX4_read.cls ≠ "java/lang/invoke/VarHandle" ∧ (parseMethodDescriptor yX4_read.desc).map (fun d => d.parameters.length) = some 1 := by decide +kernel
set_option maxHeartbeats 4000000 in
set_option maxRecDepth 100000 in
theorem met_X4_read {l : Launch} {D : va_G} {b0 n : Nat} {h0 : GH} {g : Nat → Nat} {s w a t b : Nat → Int32}  {c : Nat} {r : Nat} {q : Nat} {m : Nat} {x : Int32} (G : gM b0 g) (I : MI s c r) (V : MV s) (hq : q ≤ 4) (T : MT t m) : gMet l yX4_read cX4_read 6 ((some .int)) 8 183 0 0 D b0 (mh h0 D g s w a t b (nI q) (nI m)) n [.ref (g 0), .int x] (pI (fun r' h' n' => ∃ a' b', (sp_read s c r (tc t) m x).1 = r' ∧ MR h0 D g (sp_read s c r (tc t) m x) s w a' t b' q (nI m) = h' ∧ n = n')) := by
  refine gMet.of (lv := [(0, _), (1, _)]) (by decide) (Nat.le_of_ble_eq_true rfl) rfl ?_
  intro p_ e_ U0 m_ args_ below_ meth_ co_ C hr hlk hnm
  have hI := m_ed_le I
  obtain ⟨I0, I1, I2, I3, I4, I5⟩ := id I
  have T1 := T.1
  refine g_aload_n C dX4_read_0 rfl 0 rfl ?_
  refine g_iload_n C dX4_read_1 rfl 1 rfl ?_
  refine g_V1I C (met_X4_isSheet G I) (cwV 1 C.2.2.2.2.1 (lw_V q1217 q1219 qs24 q79 q1220) rfl rfl rfl ok_X4_isSheet ⟨(Nat.le_of_ble_eq_true rfl), (Nat.le_of_ble_eq_true rfl)⟩) (mh_0 G) rfl (Nat.le_of_ble_eq_true rfl) dX4_read_2 ⟨(Nat.le_of_ble_eq_true rfl), (Nat.le_of_ble_eq_true rfl)⟩ (fun r_2 h_2 n_2 hp_2 hn_2 => ?_)
  obtain ⟨rfl, rfl, rfl⟩ := hp_2
  refine g_if_neB (tgt := 10) C dX4_read_5 (by decide) (fun c_5 => ?_) (fun c_5 => ?_)
  · obtain ⟨k, hk, rfl⟩ := isIn_ex c_5
    refine g_aload_n C dX4_read_10 rfl 0 rfl ?_
    refine g_V0I C (met_X4_faultAt G T) (cwV 0 C.2.2.2.2.1 (lw_V q1438 q1440 qs58 q79 q1441) rfl rfl rfl ok_X4_faultAt ⟨(Nat.le_of_ble_eq_true rfl), (Nat.le_of_ble_eq_true rfl)⟩) (mh_0 G) rfl (Nat.le_of_ble_eq_true rfl) dX4_read_11 ⟨(Nat.le_of_ble_eq_true rfl), (Nat.le_of_ble_eq_true rfl)⟩ (fun r_11 h_11 n_11 hp_11 hn_11 => ?_)
    obtain ⟨rfl, rfl, rfl⟩ := hp_11
    refine g_bipush C dX4_read_14 kb_m4 ?_
    refine g_icmp_eq (tgt := 22) C dX4_read_16 (by decide) (fun c_16 => ?_) (fun c_16 => ?_)
    · refine g_aload_n C dX4_read_22 rfl 0 rfl ?_
      refine g_V0V C (met_X4_hold G) (cwV 0 C.2.2.2.2.1 (lw_V q1189 q1191 qs19 q79 q1192) rfl rfl rfl ok_X4_hold ⟨(Nat.le_of_ble_eq_true rfl), (Nat.le_of_ble_eq_true rfl)⟩) (mh_0 G) rfl (Nat.le_of_ble_eq_true rfl) dX4_read_23 ⟨(Nat.le_of_ble_eq_true rfl), (Nat.le_of_ble_eq_true rfl)⟩ (fun h_23 n_23 hp_23 hn_23 => ?_)
      obtain ⟨rfl, rfl⟩ := hp_23
      refine g_iconst C dX4_read_26 kc_0 ?_
      refine g_istore_n (lv' := [(2, _), (0, _), (1, _)]) C dX4_read_27 rfl (by decide) rfl ?_
      refine g_iconst C dX4_read_28 kc_0 ?_
      refine g_istore_n (lv' := [(3, _), (2, _), (0, _), (1, _)]) C dX4_read_29 rfl (by decide) rfl ?_
      have loop : ∀ (N_ i z : Nat) (S : Nat → Int32), i ≤ m → m < i + N_ → z + (t_ls (tc t) m N_ i).length = (t_ls (tc t) m 101 0).length → t_ap S k (t_ls (tc t) m N_ i) = t_ap s k (t_ls (tc t) m 101 0) → t_ft (tc t) m N_ i = -4 → MV S → gW p_ l e_ (headSpec (ws_ yX4_read cX4_read 6 ((some .int))) (gRm 8 183 0 0)).room U0 m_ args_ below_ meth_ co_ (MQ below_ (gQc D b0 (pI (fun r' h' n' => ∃ a' b', (sp_read s c r (tc t) m (nI k)).1 = r' ∧ MR h0 D g (sp_read s c r (tc t) m (nI k)) s w a' t b' q (nI m) = h' ∧ n = n'))) args_ U0 0 0 (gA b0)) D b0 6 (mh h0 D g S w (fill s a 0 1972) t b (nI q) (nI m)) n 0 0 30 [(0, .ref (g 0)), (1, .int (nI k)), (2, .int (nI z)), (3, .int (nI i))] [] := by
        intro N_
        induction N_ with
        | zero => intro i z S h1_ h2_; exact absurd h2_ (by omega)
        | succ N_ ih =>
          intro i z S h1_ h2_ hz hap hft hV
          refine g_iload_n C dX4_read_30 rfl 3 rfl ?_
          refine g_aload_n C dX4_read_31 rfl 0 rfl ?_
          refine g_get C in_X4 (mh_0 G) rfl 5 (by decide) q1165 (fun _ hx => hx) rfl dX4_read_32 ?_
          refine g_icmp_geN (tgt := 111) C dX4_read_35 (by decide) (by omega) (by omega) (fun c_35 => ?_) (fun c_35 => ?_)
          · rw [t_ls_n (by omega)] at hap hz
            have hlen : z ≤ 101 := by have := @t_ls_len (tc t) m 101 0; omega
            have hz9 : z = (t_ls (tc t) m 101 0).length := by rw [← hz]; rfl
            have hap9 : S = t_ap s k (t_ls (tc t) m 101 0) := hap
            have hit9 := t_ls_in (u := tc t) T1 (N := 101) (j := 0) (by omega) c_16
            have I9 : MI S c r := I.congr (by rw [hap9, t_ap_lo (by omega)]) (by rw [hap9, t_ap_lo (by omega)])
            refine g_aload_n C dX4_read_111 rfl 0 rfl ?_
            refine g_iload_n C dX4_read_112 rfl 1 rfl ?_
            refine g_iload_n C dX4_read_113 rfl 2 rfl ?_
            refine g_if_leN (tgt := 121) C dX4_read_114 (by decide) (by omega) (fun c_114 => ?_) (fun c_114 => ?_)
            · refine g_iconst C dX4_read_121 kc_0 ?_
              refine g_topi (y := bI (decide (0 < z))) (bI_f (decide_eq_false (by omega))) ?_
              refine g_iload_n C dX4_read_122 rfl 2 rfl ?_
              refine g_V3I C (met_X4_keeps G I9 hV (by omega) (by omega)) (cwV 3 C.2.2.2.2.1 (lw_V q1237 q1239 qs29 q79 q1240) rfl rfl rfl ok_X4_keeps ⟨(Nat.le_of_ble_eq_true rfl), (Nat.le_of_ble_eq_true rfl)⟩) (mh_0 G) rfl (Nat.le_of_ble_eq_true rfl) dX4_read_123 ⟨(Nat.le_of_ble_eq_true rfl), (Nat.le_of_ble_eq_true rfl)⟩ (fun r_123 h_123 n_123 hp_123 hn_123 => ?_)
              obtain ⟨rfl, rfl, rfl⟩ := hp_123
              have ho : sp_read s c r (tc t) m (nI k) = sp_keep S c r k (decide (0 < z)) (nI z) := by unfold sp_read; rw [if_pos c_5, if_pos c_16, tn_nI (k := k) (by omega), hap9, hz9]
              exact g_iret C hr hlk dX4_read_126 (Nat.le_of_ble_eq_true rfl) (Nat.le_of_ble_eq_true rfl) rfl ⟨_, rfl, ⟨_, _, by rw [ho, sp_keep_1], by rw [ho, sp_keep_2 hI.1 (fun x hx => by rw [hap9, t_ap_far (by omega) hx _ (fun it h => (hit9 it h).1)])], rfl⟩⟩
            · refine g_iconst C dX4_read_117 kc_1 ?_
              refine g_goto (tgt := 122) C dX4_read_118 (by decide) ?_
              refine g_topi (y := bI (decide (0 < z))) (bI_t (decide_eq_true (by omega))) ?_
              refine g_iload_n C dX4_read_122 rfl 2 rfl ?_
              refine g_V3I C (met_X4_keeps G I9 hV (by omega) (by omega)) (cwV 3 C.2.2.2.2.1 (lw_V q1237 q1239 qs29 q79 q1240) rfl rfl rfl ok_X4_keeps ⟨(Nat.le_of_ble_eq_true rfl), (Nat.le_of_ble_eq_true rfl)⟩) (mh_0 G) rfl (Nat.le_of_ble_eq_true rfl) dX4_read_123 ⟨(Nat.le_of_ble_eq_true rfl), (Nat.le_of_ble_eq_true rfl)⟩ (fun r_123 h_123 n_123 hp_123 hn_123 => ?_)
              obtain ⟨rfl, rfl, rfl⟩ := hp_123
              have ho : sp_read s c r (tc t) m (nI k) = sp_keep S c r k (decide (0 < z)) (nI z) := by unfold sp_read; rw [if_pos c_5, if_pos c_16, tn_nI (k := k) (by omega), hap9, hz9]
              exact g_iret C hr hlk dX4_read_126 (Nat.le_of_ble_eq_true rfl) (Nat.le_of_ble_eq_true rfl) rfl ⟨_, rfl, ⟨_, _, by rw [ho, sp_keep_1], by rw [ho, sp_keep_2 hI.1 (fun x hx => by rw [hap9, t_ap_far (by omega) hx _ (fun it h => (hit9 it h).1)])], rfl⟩⟩
          · obtain ⟨hk0, hft2⟩ := t_ft_ok T1 c_35 hft
            have hin := t_ok_in hk0
            have hsd := t_ok_sd hk0
            have hsn := m_sn_t hsd.1
            have Ti := T.2 i (by omega)
            have Ti1 := T.2 (i + 1) (by omega)
            obtain ⟨V9, hpl, hvl⟩ := hV.item (u := tc t) (m := m) (j := i) (k := k) (by omega) hk0
            refine g_aload_n C dX4_read_38 rfl 0 rfl ?_
            refine g_iload_n C dX4_read_39 rfl 3 rfl ?_
            refine g_V1I C (met_X4_itemAt G T (by omega)) (cwV 1 C.2.2.2.2.1 (lw_V q1442 q1444 qs59 q79 q1445) rfl rfl rfl ok_X4_itemAt ⟨(Nat.le_of_ble_eq_true rfl), (Nat.le_of_ble_eq_true rfl)⟩) (mh_0 G) rfl (Nat.le_of_ble_eq_true rfl) dX4_read_40 ⟨(Nat.le_of_ble_eq_true rfl), (Nat.le_of_ble_eq_true rfl)⟩ (fun r_40 h_40 n_40 hp_40 hn_40 => ?_)
            obtain ⟨rfl, rfl, rfl⟩ := hp_40
            refine g_topi (y := nI (t_ok (tc t) m i)) (m_it_pos hk0) ?_
            refine g_istore (lv' := [(4, _), (0, _), (1, _), (2, _), (3, _)]) C dX4_read_43 (by decide) rfl ?_
            refine g_iload C dX4_read_45 0 rfl ?_
            refine g_iconst C dX4_read_47 kc_4 ?_
            refine g_icmp_neN (tgt := 56) C dX4_read_48 (by decide) (by omega) (by omega) (fun c_48 => ?_) (fun c_48 => ?_)
            · have Ti3 := T.2 (i + 3) (by omega)
              have hd3 := hsd.2.2.2.2 c_48
              refine g_aload_n C dX4_read_56 rfl 1 rfl ?_
              refine g_get C in_X4 (mh_0 G) rfl 4 (by decide) q1164 (fun _ hx => hx) rfl dX4_read_57 ?_
              refine g_iload_n C dX4_read_60 rfl 4 rfl ?_
              refine g_iconst C dX4_read_61 kc_3 ?_
              refine g_iaddN C dX4_read_62 ?_
              refine g_ialdN C (mh_4 G) (by omega) (by omega) dX4_read_63 ?_
              refine g_topi (y := nI (tc t (i + 3))) Ti3.1 ?_
              refine g_bipush C dX4_read_64 kb_48 ?_
              refine g_isubN C dX4_read_66 (by omega) ?_
              refine g_topi (y := nI (t_vl (tc t) m i)) (by unfold t_vl; rw [if_neg c_48]) ?_
              refine g_istore (lv' := [(5, _), (4, _), (0, _), (1, _), (2, _), (3, _)]) C dX4_read_67 (by decide) rfl ?_
              refine g_aload_n C dX4_read_69 rfl 2 rfl ?_
              refine g_iload_n C dX4_read_70 rfl 3 rfl ?_
              refine g_bipush C dX4_read_71 kb_10 ?_
              refine g_aload_n C dX4_read_73 rfl 2 rfl ?_
              refine g_get C in_X4 (mh_0 G) rfl 4 (by decide) q1164 (fun _ hx => hx) rfl dX4_read_74 ?_
              refine g_iload_n C dX4_read_77 rfl 5 rfl ?_
              refine g_ialdN C (mh_4 G) (by omega) (by omega) dX4_read_78 ?_
              refine g_topi (y := nI (tc t i)) Ti.1 ?_
              refine g_S1I C (met_X4_sideNamed (by omega)) (va_cwS 1 C.2.2.2.2.1 (lw_S q1446 q1447 q79 q1448) rfl rfl rfl ok_X4_sideNamed ⟨(Nat.le_of_ble_eq_true rfl), (Nat.le_of_ble_eq_true rfl)⟩) (Nat.le_of_ble_eq_true rfl) dX4_read_79 ⟨(Nat.le_of_ble_eq_true rfl), (Nat.le_of_ble_eq_true rfl)⟩ (fun r_79 h_79 n_79 hp_79 hn_79 => ?_)
              obtain ⟨rfl, rfl, rfl⟩ := hp_79
              refine g_topi (y := nI (t_sd (tc t i))) hsn ?_
              refine g_imulN C dX4_read_82 ?_
              refine g_aload_n C dX4_read_83 rfl 2 rfl ?_
              refine g_get C in_X4 (mh_0 G) rfl 4 (by decide) q1164 (fun _ hx => hx) rfl dX4_read_84 ?_
              refine g_iload_n C dX4_read_87 rfl 5 rfl ?_
              refine g_iconst C dX4_read_88 kc_1 ?_
              refine g_iaddN C dX4_read_89 ?_
              refine g_ialdN C (mh_4 G) (by omega) (by omega) dX4_read_90 ?_
              refine g_topi (y := nI (tc t (i + 1))) Ti1.1 ?_
              refine g_iaddN C dX4_read_91 ?_
              refine g_bipush C dX4_read_92 kb_48 ?_
              refine g_isubN C dX4_read_94 (by omega) ?_
              refine g_iload C dX4_read_95 0 rfl ?_
              refine g_eq (st' := [.int (nI (t_vl (tc t) m i)), .int (nI (t_pl (tc t) i)), .int (nI k), .ref (g 0)]) rfl rfl (by unfold t_pl; rw [Nat.add_sub_assoc hsd.2.2.1]) ?_
              refine g_V3V C (met_X4_puts G (by omega) (by omega)) (cwV 3 C.2.2.2.2.1 (lw_V q1233 q1235 qs28 q79 q1236) rfl rfl rfl ok_X4_puts ⟨(Nat.le_of_ble_eq_true rfl), (Nat.le_of_ble_eq_true rfl)⟩) (mh_0 G) rfl (Nat.le_of_ble_eq_true rfl) dX4_read_97 ⟨(Nat.le_of_ble_eq_true rfl), (Nat.le_of_ble_eq_true rfl)⟩ (fun h_97 n_97 hp_97 hn_97 => ?_)
              obtain ⟨rfl, rfl⟩ := hp_97
              refine g_iinc (lv' := [(2, _), (5, _), (4, _), (0, _), (1, _), (3, _)]) (t := 4) C dX4_read_100 rfl (nI_1 _) (by decide) rfl ?_
              refine g_iload_n C dX4_read_103 rfl 5 rfl ?_
              refine g_iload C dX4_read_104 2 rfl ?_
              refine g_iaddN C dX4_read_106 ?_
              refine g_istore_n (lv' := [(3, _), (2, _), (5, _), (4, _), (0, _), (1, _)]) C dX4_read_107 rfl (by decide) rfl ?_
              refine g_goto (tgt := 30) C dX4_read_108 (by decide) ?_
              refine g_pick (lv' := [(0, _), (1, _), (2, _), (3, _)]) [4, 5, 1, 0] rfl ?_
              exact ih (i + t_ok (tc t) m i) (z + 1) _ (by omega) (by omega) (by rw [← hz, t_ls_c c_35, List.length_cons]; omega) (by rw [← hap, t_ls_c c_35]; rfl) hft2 V9
            · refine g_bipush C dX4_read_51 kb_10 ?_
              refine g_goto (tgt := 67) C dX4_read_53 (by decide) ?_
              refine g_topi (y := nI (t_vl (tc t) m i)) (by unfold t_vl; rw [if_pos c_48]) ?_
              refine g_istore (lv' := [(5, _), (4, _), (0, _), (1, _), (2, _), (3, _)]) C dX4_read_67 (by decide) rfl ?_
              refine g_aload_n C dX4_read_69 rfl 2 rfl ?_
              refine g_iload_n C dX4_read_70 rfl 3 rfl ?_
              refine g_bipush C dX4_read_71 kb_10 ?_
              refine g_aload_n C dX4_read_73 rfl 2 rfl ?_
              refine g_get C in_X4 (mh_0 G) rfl 4 (by decide) q1164 (fun _ hx => hx) rfl dX4_read_74 ?_
              refine g_iload_n C dX4_read_77 rfl 5 rfl ?_
              refine g_ialdN C (mh_4 G) (by omega) (by omega) dX4_read_78 ?_
              refine g_topi (y := nI (tc t i)) Ti.1 ?_
              refine g_S1I C (met_X4_sideNamed (by omega)) (va_cwS 1 C.2.2.2.2.1 (lw_S q1446 q1447 q79 q1448) rfl rfl rfl ok_X4_sideNamed ⟨(Nat.le_of_ble_eq_true rfl), (Nat.le_of_ble_eq_true rfl)⟩) (Nat.le_of_ble_eq_true rfl) dX4_read_79 ⟨(Nat.le_of_ble_eq_true rfl), (Nat.le_of_ble_eq_true rfl)⟩ (fun r_79 h_79 n_79 hp_79 hn_79 => ?_)
              obtain ⟨rfl, rfl, rfl⟩ := hp_79
              refine g_topi (y := nI (t_sd (tc t i))) hsn ?_
              refine g_imulN C dX4_read_82 ?_
              refine g_aload_n C dX4_read_83 rfl 2 rfl ?_
              refine g_get C in_X4 (mh_0 G) rfl 4 (by decide) q1164 (fun _ hx => hx) rfl dX4_read_84 ?_
              refine g_iload_n C dX4_read_87 rfl 5 rfl ?_
              refine g_iconst C dX4_read_88 kc_1 ?_
              refine g_iaddN C dX4_read_89 ?_
              refine g_ialdN C (mh_4 G) (by omega) (by omega) dX4_read_90 ?_
              refine g_topi (y := nI (tc t (i + 1))) Ti1.1 ?_
              refine g_iaddN C dX4_read_91 ?_
              refine g_bipush C dX4_read_92 kb_48 ?_
              refine g_isubN C dX4_read_94 (by omega) ?_
              refine g_iload C dX4_read_95 0 rfl ?_
              refine g_eq (st' := [.int (nI (t_vl (tc t) m i)), .int (nI (t_pl (tc t) i)), .int (nI k), .ref (g 0)]) rfl rfl (by unfold t_pl; rw [Nat.add_sub_assoc hsd.2.2.1]) ?_
              refine g_V3V C (met_X4_puts G (by omega) (by omega)) (cwV 3 C.2.2.2.2.1 (lw_V q1233 q1235 qs28 q79 q1236) rfl rfl rfl ok_X4_puts ⟨(Nat.le_of_ble_eq_true rfl), (Nat.le_of_ble_eq_true rfl)⟩) (mh_0 G) rfl (Nat.le_of_ble_eq_true rfl) dX4_read_97 ⟨(Nat.le_of_ble_eq_true rfl), (Nat.le_of_ble_eq_true rfl)⟩ (fun h_97 n_97 hp_97 hn_97 => ?_)
              obtain ⟨rfl, rfl⟩ := hp_97
              refine g_iinc (lv' := [(2, _), (5, _), (4, _), (0, _), (1, _), (3, _)]) (t := 4) C dX4_read_100 rfl (nI_1 _) (by decide) rfl ?_
              refine g_iload_n C dX4_read_103 rfl 5 rfl ?_
              refine g_iload C dX4_read_104 2 rfl ?_
              refine g_iaddN C dX4_read_106 ?_
              refine g_istore_n (lv' := [(3, _), (2, _), (5, _), (4, _), (0, _), (1, _)]) C dX4_read_107 rfl (by decide) rfl ?_
              refine g_goto (tgt := 30) C dX4_read_108 (by decide) ?_
              refine g_pick (lv' := [(0, _), (1, _), (2, _), (3, _)]) [4, 5, 1, 0] rfl ?_
              exact ih (i + t_ok (tc t) m i) (z + 1) _ (by omega) (by omega) (by rw [← hz, t_ls_c c_35, List.length_cons]; omega) (by rw [← hap, t_ls_c c_35]; rfl) hft2 V9
      refine g_pick (lv' := [(0, _), (1, _), (2, _), (3, _)]) [2, 3, 1, 0] rfl ?_
      exact loop 101 0 0 s (by omega) (by omega) (Nat.zero_add _) rfl c_16 V
    · refine g_bipush C dX4_read_19 kb_m2 ?_
      have ho : sp_read s c r (tc t) m (nI k) = (-2, none) := by unfold sp_read; rw [if_pos c_5, if_neg c_16]
      exact g_iret C hr hlk dX4_read_21 (Nat.le_of_ble_eq_true rfl) (Nat.le_of_ble_eq_true rfl) rfl ⟨_, rfl, ⟨_, _, by rw [ho], by rw [ho]; rfl, rfl⟩⟩
  · refine g_iconst C dX4_read_8 kc_m1 ?_
    have ho : sp_read s c r (tc t) m x = (-1, none) := by unfold sp_read; rw [c_5]; rfl
    exact g_iret C hr hlk dX4_read_9 (Nat.le_of_ble_eq_true rfl) (Nat.le_of_ble_eq_true rfl) rfl ⟨_, rfl, ⟨_, _, by rw [ho], by rw [ho]; rfl, rfl⟩⟩
