theorem ok_X4_settle : yX4_settle.cls = "MapSheetsModel" ∧ yX4_settle.cls ≠ "java/lang/invoke/MethodHandle" ∧ yX4_settle.cls ≠ "java/lang/invoke/VarHandle" ∧ (parseMethodDescriptor yX4_settle.desc).map (fun d => d.parameters.length) = some 2 := by decide +kernel
set_option maxHeartbeats 4000000 in
set_option maxRecDepth 100000 in
theorem met_X4_settle {l : Launch} {D : va_G} {b0 n : Nat} {h0 : GH} {g : Nat → Nat} {s w a t b : Nat → Int32} {ty : Int32} {c : Nat} {r : Nat} {q : Nat} {x : Int32} {y : Int32} (G : gM b0 g) (I : MI s c r) (V : MV s) (hq : q ≤ 4) : gMet l yX4_settle cX4_settle 10 ((some .int)) 4 91 0 0 D b0 (mh h0 D g s w a t b (nI q) ty) n [.ref (g 0), .int x, .int y] (pI (fun r' h' n' => ∃ a' b', (sp_settle s c r x y).1 = r' ∧ MR h0 D g (sp_settle s c r x y) s w a' t b' q ty = h' ∧ n = n')) := by
  refine gMet.of (lv := [(0, _), (1, _), (2, _)]) (by decide) (Nat.le_of_ble_eq_true rfl) rfl ?_
  intro p_ e_ U0 m_ args_ below_ meth_ co_ C hr hlk hnm
  have hI := m_ed_le I
  obtain ⟨I0, I1, I2, I3, I4, I5⟩ := id I
  have J94 : ∀ (e : Nat) (f : Bool), e < m_ed c r → x = nI e → isIn (nI e) (m_ed c r) = true → (y = nI (m_fst c r e) ∨ y = nI (m_snd c r e)) → decide (y = nI (m_fst c r e)) = f → gW p_ l e_ (headSpec (ws_ yX4_settle cX4_settle 10 ((some .int))) (gRm 4 91 0 0)).room U0 m_ args_ below_ meth_ co_ (MQ below_ (gQc D b0 (pI (fun r' h' n' => ∃ a' b', (sp_settle s c r (nI e) y).1 = r' ∧ MR h0 D g (sp_settle s c r (nI e) y) s w a' t b' q ty = h' ∧ n = n'))) args_ U0 0 0 (gA b0)) D b0 10 (mh h0 D g s w (fill s a 0 1972) t b (nI q) ty) n 0 0 94 [(0, .ref (g 0)), (1, .int (nI e)), (2, .int y), (3, .int (bI f)), (4, .int (nI (st_o c r e f))), (5, .int (nI (st_d c r e f)))] [] := by
    intro e f he hxe hIn hy hf
    subst hxe
    have hfs := m_fs_lt I he
    have hsd := m_sd_lt c r e
    have hop := m_op_lt (m_sd c r e)
    have hst := st_in (f := f) I he
    have hset := sp_settle_f (s := s) (by omega) hIn hy hf
    refine g_iconst C dX4_settle_94 kc_0 ?_
    refine g_istore (lv' := [(6, _), (0, _), (1, _), (2, _), (3, _), (4, _), (5, _)]) C dX4_settle_95 (by decide) rfl ?_
    refine g_iconst C dX4_settle_97 kc_0 ?_
    refine g_istore (lv' := [(7, _), (6, _), (0, _), (1, _), (2, _), (3, _), (4, _), (5, _)]) C dX4_settle_98 (by decide) rfl ?_
    have loop : ∀ (N_ i : Nat), i ≤ 10 → 10 < i + N_ → (∀ p, p < i → st_S s c r e f p ≠ -4) → MV (st_s s c r e f i) → gW p_ l e_ (headSpec (ws_ yX4_settle cX4_settle 10 ((some .int))) (gRm 4 91 0 0)).room U0 m_ args_ below_ meth_ co_ (MQ below_ (gQc D b0 (pI (fun r' h' n' => ∃ a' b', (sp_settle s c r (nI e) y).1 = r' ∧ MR h0 D g (sp_settle s c r (nI e) y) s w a' t b' q ty = h' ∧ n = n'))) args_ U0 0 0 (gA b0)) D b0 10 (mh h0 D g (st_s s c r e f i) w (fill s a 0 1972) t b (nI q) ty) n 0 0 100 [(0, .ref (g 0)), (1, .int (nI e)), (2, .int y), (3, .int (bI f)), (4, .int (nI (st_o c r e f))), (5, .int (nI (st_d c r e f))), (6, .int (nI (st_n s c r e f i))), (7, .int (nI i))] [] := by
      intro N_
      induction N_ with
      | zero => intro i h1_ h2_; exact absurd h2_ (by omega)
      | succ N_ ih =>
        intro i h1_ h2_ hall hV
        have I9 : MI (st_s s c r e f i) c r := I.congr (st_lo (by omega)) (st_lo (by omega))
        have hn9 : st_n s c r e f i ≤ i := cnt_le _ _
        refine g_iload C dX4_settle_100 7 rfl ?_
        refine g_bipush C dX4_settle_102 kb_10 ?_
        refine g_icmp_geN (tgt := 203) C dX4_settle_104 (by decide) (by omega) (by omega) (fun c_104 => ?_) (fun c_104 => ?_)
        · refine g_iload C dX4_settle_203 6 rfl ?_
          refine g_if_leN (tgt := 214) C dX4_settle_205 (by decide) (by omega) (fun c_205 => ?_) (fun c_205 => ?_)
          · refine g_aload_n C dX4_settle_214 rfl 0 rfl ?_
            refine g_iload C dX4_settle_215 6 rfl ?_
            refine g_V1I C (met_X4_records G (by omega)) (cwV 1 C.2.2.2.2.1 (lw_V q1201 q1203 qs22 q79 q1204) rfl rfl rfl ok_X4_records ⟨(Nat.le_of_ble_eq_true rfl), (Nat.le_of_ble_eq_true rfl)⟩) (mh_0 G) rfl (Nat.le_of_ble_eq_true rfl) dX4_settle_217 ⟨(Nat.le_of_ble_eq_true rfl), (Nat.le_of_ble_eq_true rfl)⟩ (fun r_217 h_217 n_217 hp_217 hn_217 => ?_)
            obtain ⟨rfl, rfl, rfl⟩ := hp_217
            have hi9 : i = 10 := by omega
            subst hi9
            have ho : sp_settle s c r (nI e) y = (nI (st_n s c r e f 10), some (st_s s c r e f 10)) := by rw [hset, show st_k s c r e f = true from allb_t (fun p hp => decide_eq_true (hall p hp))]; show (nI _, some (if _ then _ else _)) = _; rw [if_neg (by omega)]
            exact g_iret C hr hlk dX4_settle_220 (Nat.le_of_ble_eq_true rfl) (Nat.le_of_ble_eq_true rfl) rfl ⟨_, rfl, ⟨_, _, by rw [ho], by rw [m_rw_cp, ho]; rfl, rfl⟩⟩
          · refine g_aload_n C dX4_settle_208 rfl 0 rfl ?_
            refine g_iload C dX4_settle_209 4 rfl ?_
            refine g_V1V C (met_X4_revises G (by omega)) (cwV 1 C.2.2.2.2.1 (lw_V q1285 q1287 qs41 q79 q1288) rfl rfl rfl ok_X4_revises ⟨(Nat.le_of_ble_eq_true rfl), (Nat.le_of_ble_eq_true rfl)⟩) (mh_0 G) rfl (Nat.le_of_ble_eq_true rfl) dX4_settle_211 ⟨(Nat.le_of_ble_eq_true rfl), (Nat.le_of_ble_eq_true rfl)⟩ (fun h_211 n_211 hp_211 hn_211 => ?_)
            obtain ⟨rfl, rfl⟩ := hp_211
            refine g_aload_n C dX4_settle_214 rfl 0 rfl ?_
            refine g_iload C dX4_settle_215 6 rfl ?_
            refine g_V1I C (met_X4_records G (by omega)) (cwV 1 C.2.2.2.2.1 (lw_V q1201 q1203 qs22 q79 q1204) rfl rfl rfl ok_X4_records ⟨(Nat.le_of_ble_eq_true rfl), (Nat.le_of_ble_eq_true rfl)⟩) (mh_0 G) rfl (Nat.le_of_ble_eq_true rfl) dX4_settle_217 ⟨(Nat.le_of_ble_eq_true rfl), (Nat.le_of_ble_eq_true rfl)⟩ (fun r_217 h_217 n_217 hp_217 hn_217 => ?_)
            obtain ⟨rfl, rfl, rfl⟩ := hp_217
            have hi9 : i = 10 := by omega
            subst hi9
            have ho : sp_settle s c r (nI e) y = (nI (st_n s c r e f 10), some (rev (st_s s c r e f 10) (st_o c r e f))) := by rw [hset, show st_k s c r e f = true from allb_t (fun p hp => decide_eq_true (hall p hp))]; show (nI _, some (if _ then _ else _)) = _; rw [if_pos c_205]
            exact g_iret C hr hlk dX4_settle_220 (Nat.le_of_ble_eq_true rfl) (Nat.le_of_ble_eq_true rfl) rfl ⟨_, rfl, ⟨_, _, by rw [ho], by rw [m_rw_cp, ho]; rfl, rfl⟩⟩
        · have hmn := st_mean (f := f) (p := i) (i := i) I V he (by omega) (by omega) rfl
          have v1 := V.1 (st_o c r e f) (by omega) (10 * st_d c r e f + i) (by omega)
          refine g_aload_n C dX4_settle_107 rfl 0 rfl ?_
          refine g_iload C dX4_settle_108 4 rfl ?_
          refine g_iload C dX4_settle_110 5 rfl ?_
          refine g_iload C dX4_settle_112 7 rfl ?_
          refine g_V3I C (met_X4_signAt G (by omega) (by omega) (by omega)) (cwV 3 C.2.2.2.2.1 (lw_V q1225 q1227 qs26 q79 q1228) rfl rfl rfl ok_X4_signAt ⟨(Nat.le_of_ble_eq_true rfl), (Nat.le_of_ble_eq_true rfl)⟩) (mh_0 G) rfl (Nat.le_of_ble_eq_true rfl) dX4_settle_114 ⟨(Nat.le_of_ble_eq_true rfl), (Nat.le_of_ble_eq_true rfl)⟩ (fun r_114 h_114 n_114 hp_114 hn_114 => ?_)
          obtain ⟨rfl, rfl, rfl⟩ := hp_114
          refine g_topi (y := nI (sv s (ix (st_o c r e f) (10 * st_d c r e f + i)))) (st_at.trans v1.1) ?_
          refine g_istore (lv' := [(8, _), (0, _), (1, _), (2, _), (3, _), (4, _), (5, _), (6, _), (7, _)]) C dX4_settle_117 (by decide) rfl ?_
          refine g_aload_n C dX4_settle_119 rfl 1 rfl ?_
          refine g_iload C dX4_settle_120 5 rfl ?_
          refine g_iload C dX4_settle_122 0 rfl ?_
          refine g_iload_n C dX4_settle_124 rfl 4 rfl ?_
          refine g_if_eqB (tgt := 138) C dX4_settle_125 (by decide) (fun c_125 => ?_) (fun c_125 => ?_)
          · refine g_aload_n C dX4_settle_138 rfl 1 rfl ?_
            refine g_iload_n C dX4_settle_139 rfl 2 rfl ?_
            refine g_iload C dX4_settle_140 8 rfl ?_
            refine g_V2I C (met_X4_secondMeans G I9 hV (by omega) (by omega)) (cwV 2 C.2.2.2.2.1 (lw_V q1273 q1275 qs38 q79 q1276) rfl rfl rfl ok_X4_secondMeans ⟨(Nat.le_of_ble_eq_true rfl), (Nat.le_of_ble_eq_true rfl)⟩) (mh_0 G) rfl (Nat.le_of_ble_eq_true rfl) dX4_settle_142 ⟨(Nat.le_of_ble_eq_true rfl), (Nat.le_of_ble_eq_true rfl)⟩ (fun r_142 h_142 n_142 hp_142 hn_142 => ?_)
            obtain ⟨rfl, rfl, rfl⟩ := hp_142
            have hmle : st_m s c r e f i ≤ 10 := by
              unfold st_m; split
              · exact m_mean_le V (by omega) (by omega) (by omega)
              · exact m_mean_le V (by omega) (by omega) (by omega)
            refine g_topi (y := nI (st_m s c r e f i)) (by rw [hmn.2 c_125]; unfold st_m; rw [c_125]; rfl) ?_
            refine g_V3I C (met_X4_signFor G hV (by omega) (by omega) (by omega)) (cwV 3 C.2.2.2.2.1 (lw_V q1403 q1405 qs57 q79 q1406) rfl rfl rfl ok_X4_signFor ⟨(Nat.le_of_ble_eq_true rfl), (Nat.le_of_ble_eq_true rfl)⟩) (mh_0 G) rfl (Nat.le_of_ble_eq_true rfl) dX4_settle_145 ⟨(Nat.le_of_ble_eq_true rfl), (Nat.le_of_ble_eq_true rfl)⟩ (fun r_145 h_145 n_145 hp_145 hn_145 => ?_)
            obtain ⟨rfl, rfl, rfl⟩ := hp_145
            refine g_topi (y := st_S s c r e f i) (m_sf_congr (by omega) (fun j hj => st_leg hst.2 (by omega) (by omega))) ?_
            refine g_istore (lv' := [(9, _), (8, _), (0, _), (1, _), (2, _), (3, _), (4, _), (5, _), (6, _), (7, _)]) C dX4_settle_148 (by decide) rfl ?_
            refine g_iload C dX4_settle_150 0 rfl ?_
            refine g_bipush C dX4_settle_152 kb_m4 ?_
            refine g_icmp_ne (tgt := 164) C dX4_settle_154 (by decide) (fun c_154 => ?_) (fun c_154 => ?_)
            · obtain ⟨z, hz, hSz⟩ := m_sf_ex (by omega) c_154
              refine g_iload C dX4_settle_164 8 rfl ?_
              refine g_iload C dX4_settle_166 0 rfl ?_
              refine g_iload C dX4_settle_168 1 rfl ?_
              refine g_icmp_ne (tgt := 177) C dX4_settle_170 (by decide) (fun c_170 => ?_) (fun c_170 => ?_)
              · refine g_iconst C dX4_settle_177 kc_1 ?_
                refine g_iaddN C dX4_settle_178 ?_
                refine g_istore (lv' := [(6, _), (9, _), (8, _), (0, _), (1, _), (2, _), (3, _), (4, _), (5, _), (7, _)]) C dX4_settle_179 (by decide) rfl ?_
                refine g_aload_n C dX4_settle_181 rfl 3 rfl ?_
                refine g_iload C dX4_settle_182 7 rfl ?_
                refine g_bipush C dX4_settle_184 kb_10 ?_
                refine g_iload C dX4_settle_186 8 rfl ?_
                refine g_imulN C dX4_settle_188 ?_
                refine g_iload C dX4_settle_189 9 rfl ?_
                refine g_iaddN C dX4_settle_191 ?_
                refine g_iload C dX4_settle_192 1 rfl ?_
                refine g_V3V C (met_X4_puts G (by omega) (by omega)) (cwV 3 C.2.2.2.2.1 (lw_V q1233 q1235 qs28 q79 q1236) rfl rfl rfl ok_X4_puts ⟨(Nat.le_of_ble_eq_true rfl), (Nat.le_of_ble_eq_true rfl)⟩) (mh_0 G) rfl (Nat.le_of_ble_eq_true rfl) dX4_settle_194 ⟨(Nat.le_of_ble_eq_true rfl), (Nat.le_of_ble_eq_true rfl)⟩ (fun h_194 n_194 hp_194 hn_194 => ?_)
                obtain ⟨rfl, rfl⟩ := hp_194
                refine g_iinc (lv' := [(7, _), (6, _), (9, _), (8, _), (0, _), (1, _), (2, _), (3, _), (4, _), (5, _)]) (t := 9) C dX4_settle_197 rfl (nI_1 _) (by decide) rfl ?_
                refine g_goto (tgt := 100) C dX4_settle_200 (by decide) ?_
                refine g_pick (lv' := [(0, _), (1, _), (2, _), (3, _), (4, _), (5, _), (6, _), (7, _)]) [4, 5, 6, 7, 8, 9, 1, 0] rfl ?_
                refine g_heap (h' := mh h0 D g (st_s s c r e f (i + 1)) w (fill s a 0 1972) t b (nI q) ty) (by rw [st_s_s]) ?_
                refine g_eq (lv' := [(0, .ref (g 0)), (1, .int (nI e)), (2, .int y), (3, .int (bI f)), (4, .int (nI (st_o c r e f))), (5, .int (nI (st_d c r e f))), (6, .int (nI (st_n s c r e f (i + 1)))), (7, .int (nI (i + 1)))]) rfl (by unfold st_n; rw [cnt_s (st_c_t (fun z => c_170 (z.trans v1.1)))]) rfl ?_
                exact ih (i + 1) (by omega) (by omega) (fun p hp => by
                  by_cases hpi : p = i
                  · subst hpi; exact c_154
                  · exact hall p (by omega)) (by rw [← st_s_s, show st_S s c r e f i = nI z from hSz]; exact hV.put1 (by omega) (by omega) hz)
              · refine g_iconst C dX4_settle_173 kc_0 ?_
                refine g_goto (tgt := 178) C dX4_settle_174 (by decide) ?_
                refine g_iaddN C dX4_settle_178 ?_
                refine g_istore (lv' := [(6, _), (9, _), (8, _), (0, _), (1, _), (2, _), (3, _), (4, _), (5, _), (7, _)]) C dX4_settle_179 (by decide) rfl ?_
                refine g_aload_n C dX4_settle_181 rfl 3 rfl ?_
                refine g_iload C dX4_settle_182 7 rfl ?_
                refine g_bipush C dX4_settle_184 kb_10 ?_
                refine g_iload C dX4_settle_186 8 rfl ?_
                refine g_imulN C dX4_settle_188 ?_
                refine g_iload C dX4_settle_189 9 rfl ?_
                refine g_iaddN C dX4_settle_191 ?_
                refine g_iload C dX4_settle_192 1 rfl ?_
                refine g_V3V C (met_X4_puts G (by omega) (by omega)) (cwV 3 C.2.2.2.2.1 (lw_V q1233 q1235 qs28 q79 q1236) rfl rfl rfl ok_X4_puts ⟨(Nat.le_of_ble_eq_true rfl), (Nat.le_of_ble_eq_true rfl)⟩) (mh_0 G) rfl (Nat.le_of_ble_eq_true rfl) dX4_settle_194 ⟨(Nat.le_of_ble_eq_true rfl), (Nat.le_of_ble_eq_true rfl)⟩ (fun h_194 n_194 hp_194 hn_194 => ?_)
                obtain ⟨rfl, rfl⟩ := hp_194
                refine g_iinc (lv' := [(7, _), (6, _), (9, _), (8, _), (0, _), (1, _), (2, _), (3, _), (4, _), (5, _)]) (t := 9) C dX4_settle_197 rfl (nI_1 _) (by decide) rfl ?_
                refine g_goto (tgt := 100) C dX4_settle_200 (by decide) ?_
                refine g_pick (lv' := [(0, _), (1, _), (2, _), (3, _), (4, _), (5, _), (6, _), (7, _)]) [4, 5, 6, 7, 8, 9, 1, 0] rfl ?_
                refine g_heap (h' := mh h0 D g (st_s s c r e f (i + 1)) w (fill s a 0 1972) t b (nI q) ty) (by rw [st_s_s]) ?_
                refine g_eq (lv' := [(0, .ref (g 0)), (1, .int (nI e)), (2, .int y), (3, .int (bI f)), (4, .int (nI (st_o c r e f))), (5, .int (nI (st_d c r e f))), (6, .int (nI (st_n s c r e f (i + 1)))), (7, .int (nI (i + 1)))]) rfl (by unfold st_n; rw [cnt_n (st_c_f (c_170.trans v1.1.symm))]) rfl ?_
                exact ih (i + 1) (by omega) (by omega) (fun p hp => by
                  by_cases hpi : p = i
                  · subst hpi; exact c_154
                  · exact hall p (by omega)) (by rw [← st_s_s, show st_S s c r e f i = nI z from hSz]; exact hV.put1 (by omega) (by omega) hz)
            · refine g_aload_n C dX4_settle_157 rfl 2 rfl ?_
              refine g_V0V C (met_X4_restore G) (cwV 0 C.2.2.2.2.1 (lw_V q1281 q1283 qs40 q79 q1284) rfl rfl rfl ok_X4_restore ⟨(Nat.le_of_ble_eq_true rfl), (Nat.le_of_ble_eq_true rfl)⟩) (mh_0 G) rfl (Nat.le_of_ble_eq_true rfl) dX4_settle_158 ⟨(Nat.le_of_ble_eq_true rfl), (Nat.le_of_ble_eq_true rfl)⟩ (fun h_158 n_158 hp_158 hn_158 => ?_)
              obtain ⟨rfl, rfl⟩ := hp_158
              refine g_bipush C dX4_settle_161 kb_m2 ?_
              have ho : sp_settle s c r (nI e) y = (-2, none) := by rw [hset, show st_k s c r e f = false from allb_f (decide_eq_false (fun z => z c_154)) (by omega)]; rfl
              exact g_iret C hr hlk dX4_settle_163 (Nat.le_of_ble_eq_true rfl) (Nat.le_of_ble_eq_true rfl) rfl ⟨_, rfl, ⟨_, _, by rw [ho], by rw [ho, fill_back (fun x hx => st_far (by omega) hst.2 (by omega) hx)]; rfl, rfl⟩⟩
          · refine g_aload_n C dX4_settle_128 rfl 1 rfl ?_
            refine g_iload_n C dX4_settle_129 rfl 2 rfl ?_
            refine g_iload C dX4_settle_130 8 rfl ?_
            refine g_V2I C (met_X4_firstMeans G I9 hV (by omega) (by omega)) (cwV 2 C.2.2.2.2.1 (lw_V q1257 q1259 qs34 q79 q1260) rfl rfl rfl ok_X4_firstMeans ⟨(Nat.le_of_ble_eq_true rfl), (Nat.le_of_ble_eq_true rfl)⟩) (mh_0 G) rfl (Nat.le_of_ble_eq_true rfl) dX4_settle_132 ⟨(Nat.le_of_ble_eq_true rfl), (Nat.le_of_ble_eq_true rfl)⟩ (fun r_132 h_132 n_132 hp_132 hn_132 => ?_)
            obtain ⟨rfl, rfl, rfl⟩ := hp_132
            refine g_goto (tgt := 145) C dX4_settle_135 (by decide) ?_
            have hmle : st_m s c r e f i ≤ 10 := by
              unfold st_m; split
              · exact m_mean_le V (by omega) (by omega) (by omega)
              · exact m_mean_le V (by omega) (by omega) (by omega)
            refine g_topi (y := nI (st_m s c r e f i)) (by rw [hmn.1 c_125]; unfold st_m; rw [c_125]; rfl) ?_
            refine g_V3I C (met_X4_signFor G hV (by omega) (by omega) (by omega)) (cwV 3 C.2.2.2.2.1 (lw_V q1403 q1405 qs57 q79 q1406) rfl rfl rfl ok_X4_signFor ⟨(Nat.le_of_ble_eq_true rfl), (Nat.le_of_ble_eq_true rfl)⟩) (mh_0 G) rfl (Nat.le_of_ble_eq_true rfl) dX4_settle_145 ⟨(Nat.le_of_ble_eq_true rfl), (Nat.le_of_ble_eq_true rfl)⟩ (fun r_145 h_145 n_145 hp_145 hn_145 => ?_)
            obtain ⟨rfl, rfl, rfl⟩ := hp_145
            refine g_topi (y := st_S s c r e f i) (m_sf_congr (by omega) (fun j hj => st_leg hst.2 (by omega) (by omega))) ?_
            refine g_istore (lv' := [(9, _), (8, _), (0, _), (1, _), (2, _), (3, _), (4, _), (5, _), (6, _), (7, _)]) C dX4_settle_148 (by decide) rfl ?_
            refine g_iload C dX4_settle_150 0 rfl ?_
            refine g_bipush C dX4_settle_152 kb_m4 ?_
            refine g_icmp_ne (tgt := 164) C dX4_settle_154 (by decide) (fun c_154 => ?_) (fun c_154 => ?_)
            · obtain ⟨z, hz, hSz⟩ := m_sf_ex (by omega) c_154
              refine g_iload C dX4_settle_164 8 rfl ?_
              refine g_iload C dX4_settle_166 0 rfl ?_
              refine g_iload C dX4_settle_168 1 rfl ?_
              refine g_icmp_ne (tgt := 177) C dX4_settle_170 (by decide) (fun c_170 => ?_) (fun c_170 => ?_)
              · refine g_iconst C dX4_settle_177 kc_1 ?_
                refine g_iaddN C dX4_settle_178 ?_
                refine g_istore (lv' := [(6, _), (9, _), (8, _), (0, _), (1, _), (2, _), (3, _), (4, _), (5, _), (7, _)]) C dX4_settle_179 (by decide) rfl ?_
                refine g_aload_n C dX4_settle_181 rfl 3 rfl ?_
                refine g_iload C dX4_settle_182 7 rfl ?_
                refine g_bipush C dX4_settle_184 kb_10 ?_
                refine g_iload C dX4_settle_186 8 rfl ?_
                refine g_imulN C dX4_settle_188 ?_
                refine g_iload C dX4_settle_189 9 rfl ?_
                refine g_iaddN C dX4_settle_191 ?_
                refine g_iload C dX4_settle_192 1 rfl ?_
                refine g_V3V C (met_X4_puts G (by omega) (by omega)) (cwV 3 C.2.2.2.2.1 (lw_V q1233 q1235 qs28 q79 q1236) rfl rfl rfl ok_X4_puts ⟨(Nat.le_of_ble_eq_true rfl), (Nat.le_of_ble_eq_true rfl)⟩) (mh_0 G) rfl (Nat.le_of_ble_eq_true rfl) dX4_settle_194 ⟨(Nat.le_of_ble_eq_true rfl), (Nat.le_of_ble_eq_true rfl)⟩ (fun h_194 n_194 hp_194 hn_194 => ?_)
                obtain ⟨rfl, rfl⟩ := hp_194
                refine g_iinc (lv' := [(7, _), (6, _), (9, _), (8, _), (0, _), (1, _), (2, _), (3, _), (4, _), (5, _)]) (t := 9) C dX4_settle_197 rfl (nI_1 _) (by decide) rfl ?_
                refine g_goto (tgt := 100) C dX4_settle_200 (by decide) ?_
                refine g_pick (lv' := [(0, _), (1, _), (2, _), (3, _), (4, _), (5, _), (6, _), (7, _)]) [4, 5, 6, 7, 8, 9, 1, 0] rfl ?_
                refine g_heap (h' := mh h0 D g (st_s s c r e f (i + 1)) w (fill s a 0 1972) t b (nI q) ty) (by rw [st_s_s]) ?_
                refine g_eq (lv' := [(0, .ref (g 0)), (1, .int (nI e)), (2, .int y), (3, .int (bI f)), (4, .int (nI (st_o c r e f))), (5, .int (nI (st_d c r e f))), (6, .int (nI (st_n s c r e f (i + 1)))), (7, .int (nI (i + 1)))]) rfl (by unfold st_n; rw [cnt_s (st_c_t (fun z => c_170 (z.trans v1.1)))]) rfl ?_
                exact ih (i + 1) (by omega) (by omega) (fun p hp => by
                  by_cases hpi : p = i
                  · subst hpi; exact c_154
                  · exact hall p (by omega)) (by rw [← st_s_s, show st_S s c r e f i = nI z from hSz]; exact hV.put1 (by omega) (by omega) hz)
              · refine g_iconst C dX4_settle_173 kc_0 ?_
                refine g_goto (tgt := 178) C dX4_settle_174 (by decide) ?_
                refine g_iaddN C dX4_settle_178 ?_
                refine g_istore (lv' := [(6, _), (9, _), (8, _), (0, _), (1, _), (2, _), (3, _), (4, _), (5, _), (7, _)]) C dX4_settle_179 (by decide) rfl ?_
                refine g_aload_n C dX4_settle_181 rfl 3 rfl ?_
                refine g_iload C dX4_settle_182 7 rfl ?_
                refine g_bipush C dX4_settle_184 kb_10 ?_
                refine g_iload C dX4_settle_186 8 rfl ?_
                refine g_imulN C dX4_settle_188 ?_
                refine g_iload C dX4_settle_189 9 rfl ?_
                refine g_iaddN C dX4_settle_191 ?_
                refine g_iload C dX4_settle_192 1 rfl ?_
                refine g_V3V C (met_X4_puts G (by omega) (by omega)) (cwV 3 C.2.2.2.2.1 (lw_V q1233 q1235 qs28 q79 q1236) rfl rfl rfl ok_X4_puts ⟨(Nat.le_of_ble_eq_true rfl), (Nat.le_of_ble_eq_true rfl)⟩) (mh_0 G) rfl (Nat.le_of_ble_eq_true rfl) dX4_settle_194 ⟨(Nat.le_of_ble_eq_true rfl), (Nat.le_of_ble_eq_true rfl)⟩ (fun h_194 n_194 hp_194 hn_194 => ?_)
                obtain ⟨rfl, rfl⟩ := hp_194
                refine g_iinc (lv' := [(7, _), (6, _), (9, _), (8, _), (0, _), (1, _), (2, _), (3, _), (4, _), (5, _)]) (t := 9) C dX4_settle_197 rfl (nI_1 _) (by decide) rfl ?_
                refine g_goto (tgt := 100) C dX4_settle_200 (by decide) ?_
                refine g_pick (lv' := [(0, _), (1, _), (2, _), (3, _), (4, _), (5, _), (6, _), (7, _)]) [4, 5, 6, 7, 8, 9, 1, 0] rfl ?_
                refine g_heap (h' := mh h0 D g (st_s s c r e f (i + 1)) w (fill s a 0 1972) t b (nI q) ty) (by rw [st_s_s]) ?_
                refine g_eq (lv' := [(0, .ref (g 0)), (1, .int (nI e)), (2, .int y), (3, .int (bI f)), (4, .int (nI (st_o c r e f))), (5, .int (nI (st_d c r e f))), (6, .int (nI (st_n s c r e f (i + 1)))), (7, .int (nI (i + 1)))]) rfl (by unfold st_n; rw [cnt_n (st_c_f (c_170.trans v1.1.symm))]) rfl ?_
                exact ih (i + 1) (by omega) (by omega) (fun p hp => by
                  by_cases hpi : p = i
                  · subst hpi; exact c_154
                  · exact hall p (by omega)) (by rw [← st_s_s, show st_S s c r e f i = nI z from hSz]; exact hV.put1 (by omega) (by omega) hz)
            · refine g_aload_n C dX4_settle_157 rfl 2 rfl ?_
              refine g_V0V C (met_X4_restore G) (cwV 0 C.2.2.2.2.1 (lw_V q1281 q1283 qs40 q79 q1284) rfl rfl rfl ok_X4_restore ⟨(Nat.le_of_ble_eq_true rfl), (Nat.le_of_ble_eq_true rfl)⟩) (mh_0 G) rfl (Nat.le_of_ble_eq_true rfl) dX4_settle_158 ⟨(Nat.le_of_ble_eq_true rfl), (Nat.le_of_ble_eq_true rfl)⟩ (fun h_158 n_158 hp_158 hn_158 => ?_)
              obtain ⟨rfl, rfl⟩ := hp_158
              refine g_bipush C dX4_settle_161 kb_m2 ?_
              have ho : sp_settle s c r (nI e) y = (-2, none) := by rw [hset, show st_k s c r e f = false from allb_f (decide_eq_false (fun z => z c_154)) (by omega)]; rfl
              exact g_iret C hr hlk dX4_settle_163 (Nat.le_of_ble_eq_true rfl) (Nat.le_of_ble_eq_true rfl) rfl ⟨_, rfl, ⟨_, _, by rw [ho], by rw [ho, fill_back (fun x hx => st_far (by omega) hst.2 (by omega) hx)]; rfl, rfl⟩⟩
    refine g_pick (lv' := [(0, _), (1, _), (2, _), (3, _), (4, _), (5, _), (6, _), (7, _)]) [2, 3, 4, 5, 6, 7, 1, 0] rfl ?_
    refine g_heap (h' := mh h0 D g (st_s s c r e f 0) w (fill s a 0 1972) t b (nI q) ty) (by rw [st_s_0]) ?_
    exact loop 11 0 (by omega) (by omega) (fun p hp => absurd hp (by omega)) (by rw [st_s_0]; exact V)
  have J28 : ∀ e : Nat, e < m_ed c r → x = nI e → isIn (nI e) (m_ed c r) = true → (y = nI (m_fst c r e) ∨ y = nI (m_snd c r e)) → gW p_ l e_ (headSpec (ws_ yX4_settle cX4_settle 10 ((some .int))) (gRm 4 91 0 0)).room U0 m_ args_ below_ meth_ co_ (MQ below_ (gQc D b0 (pI (fun r' h' n' => ∃ a' b', (sp_settle s c r (nI e) y).1 = r' ∧ MR h0 D g (sp_settle s c r (nI e) y) s w a' t b' q ty = h' ∧ n = n'))) args_ U0 0 0 (gA b0)) D b0 10 (mh h0 D g s w a t b (nI q) ty) n 0 0 28 [(0, .ref (g 0)), (1, .int (nI e)), (2, .int y)] [] := by
    intro e he hxe hIn hy
    subst hxe
    have hfs := m_fs_lt I he
    have hsd := m_sd_lt c r e
    refine g_aload_n C dX4_settle_28 rfl 0 rfl ?_
    refine g_V0V C (met_X4_hold G) (cwV 0 C.2.2.2.2.1 (lw_V q1189 q1191 qs19 q79 q1192) rfl rfl rfl ok_X4_hold ⟨(Nat.le_of_ble_eq_true rfl), (Nat.le_of_ble_eq_true rfl)⟩) (mh_0 G) rfl (Nat.le_of_ble_eq_true rfl) dX4_settle_29 ⟨(Nat.le_of_ble_eq_true rfl), (Nat.le_of_ble_eq_true rfl)⟩ (fun h_29 n_29 hp_29 hn_29 => ?_)
    obtain ⟨rfl, rfl⟩ := hp_29
    refine g_iload_n C dX4_settle_32 rfl 2 rfl ?_
    refine g_aload_n C dX4_settle_33 rfl 0 rfl ?_
    refine g_iload_n C dX4_settle_34 rfl 1 rfl ?_
    refine g_V1I C (met_X4_firstOf G I (by first | assumption | omega)) (cwV 1 C.2.2.2.2.1 (lw_V q1261 q1263 qs35 q79 q1264) rfl rfl rfl ok_X4_firstOf ⟨(Nat.le_of_ble_eq_true rfl), (Nat.le_of_ble_eq_true rfl)⟩) (mh_0 G) rfl (Nat.le_of_ble_eq_true rfl) dX4_settle_35 ⟨(Nat.le_of_ble_eq_true rfl), (Nat.le_of_ble_eq_true rfl)⟩ (fun r_35 h_35 n_35 hp_35 hn_35 => ?_)
    obtain ⟨rfl, rfl, rfl⟩ := hp_35
    refine g_icmp_ne (tgt := 45) C dX4_settle_38 (by decide) (fun c_38 => ?_) (fun c_38 => ?_)
    · refine g_iconst C dX4_settle_45 kc_0 ?_
      refine g_topi (y := bI (false)) (show nI 0 = bI false by decide) ?_
      refine g_istore_n (lv' := [(3, _), (0, _), (1, _), (2, _)]) C dX4_settle_46 rfl (by decide) rfl ?_
      refine g_iload_n C dX4_settle_47 rfl 0 rfl ?_
      refine g_if_eqB (tgt := 59) C dX4_settle_48 (by decide) (fun c_48 => ?_) (fun c_48 => absurd c_48 (by decide))
      refine g_aload_n C dX4_settle_59 rfl 1 rfl ?_
      refine g_iload_n C dX4_settle_60 rfl 2 rfl ?_
      refine g_V1I C (met_X4_firstOf G I (by first | assumption | omega)) (cwV 1 C.2.2.2.2.1 (lw_V q1261 q1263 qs35 q79 q1264) rfl rfl rfl ok_X4_firstOf ⟨(Nat.le_of_ble_eq_true rfl), (Nat.le_of_ble_eq_true rfl)⟩) (mh_0 G) rfl (Nat.le_of_ble_eq_true rfl) dX4_settle_61 ⟨(Nat.le_of_ble_eq_true rfl), (Nat.le_of_ble_eq_true rfl)⟩ (fun r_61 h_61 n_61 hp_61 hn_61 => ?_)
      obtain ⟨rfl, rfl, rfl⟩ := hp_61
      refine g_topi (y := nI (st_o c r e false)) rfl ?_
      refine g_istore (lv' := [(4, _), (3, _), (0, _), (1, _), (2, _)]) C dX4_settle_64 (by decide) rfl ?_
      refine g_iload_n C dX4_settle_66 rfl 1 rfl ?_
      refine g_if_neB (tgt := 78) C dX4_settle_67 (by decide) (fun c_67 => absurd c_67 (by decide)) (fun c_67 => ?_)
      refine g_aload_n C dX4_settle_70 rfl 2 rfl ?_
      refine g_iload_n C dX4_settle_71 rfl 3 rfl ?_
      refine g_V1I C (met_X4_sideOf G I (by first | assumption | omega)) (cwV 1 C.2.2.2.2.1 (lw_V q1265 q1267 qs36 q79 q1268) rfl rfl rfl ok_X4_sideOf ⟨(Nat.le_of_ble_eq_true rfl), (Nat.le_of_ble_eq_true rfl)⟩) (mh_0 G) rfl (Nat.le_of_ble_eq_true rfl) dX4_settle_72 ⟨(Nat.le_of_ble_eq_true rfl), (Nat.le_of_ble_eq_true rfl)⟩ (fun r_72 h_72 n_72 hp_72 hn_72 => ?_)
      obtain ⟨rfl, rfl, rfl⟩ := hp_72
      refine g_goto (tgt := 92) C dX4_settle_75 (by decide) ?_
      refine g_topi (y := nI (st_d c r e false)) rfl ?_
      refine g_istore (lv' := [(5, _), (4, _), (3, _), (0, _), (1, _), (2, _)]) C dX4_settle_92 (by decide) rfl ?_
      refine g_pick (lv' := [(0, _), (1, _), (2, _), (3, _), (4, _), (5, _)]) [3, 4, 5, 2, 1, 0] rfl ?_
      exact J94 e false he rfl hIn hy (decide_eq_false c_38)
    · refine g_iconst C dX4_settle_41 kc_1 ?_
      refine g_goto (tgt := 46) C dX4_settle_42 (by decide) ?_
      refine g_topi (y := bI (true)) (show nI 1 = bI true by decide) ?_
      refine g_istore_n (lv' := [(3, _), (0, _), (1, _), (2, _)]) C dX4_settle_46 rfl (by decide) rfl ?_
      refine g_iload_n C dX4_settle_47 rfl 0 rfl ?_
      refine g_if_eqB (tgt := 59) C dX4_settle_48 (by decide) (fun c_48 => absurd c_48 (by decide)) (fun c_48 => ?_)
      refine g_aload_n C dX4_settle_51 rfl 1 rfl ?_
      refine g_iload_n C dX4_settle_52 rfl 2 rfl ?_
      refine g_V1I C (met_X4_secondOf G I (by first | assumption | omega)) (cwV 1 C.2.2.2.2.1 (lw_V q1277 q1279 qs39 q79 q1280) rfl rfl rfl ok_X4_secondOf ⟨(Nat.le_of_ble_eq_true rfl), (Nat.le_of_ble_eq_true rfl)⟩) (mh_0 G) rfl (Nat.le_of_ble_eq_true rfl) dX4_settle_53 ⟨(Nat.le_of_ble_eq_true rfl), (Nat.le_of_ble_eq_true rfl)⟩ (fun r_53 h_53 n_53 hp_53 hn_53 => ?_)
      obtain ⟨rfl, rfl, rfl⟩ := hp_53
      refine g_goto (tgt := 64) C dX4_settle_56 (by decide) ?_
      refine g_topi (y := nI (st_o c r e true)) rfl ?_
      refine g_istore (lv' := [(4, _), (3, _), (0, _), (1, _), (2, _)]) C dX4_settle_64 (by decide) rfl ?_
      refine g_iload_n C dX4_settle_66 rfl 1 rfl ?_
      refine g_if_neB (tgt := 78) C dX4_settle_67 (by decide) (fun c_67 => ?_) (fun c_67 => absurd c_67 (by decide))
      refine g_aload_n C dX4_settle_78 rfl 2 rfl ?_
      refine g_iload_n C dX4_settle_79 rfl 3 rfl ?_
      refine g_V1I C (met_X4_sideOf G I (by first | assumption | omega)) (cwV 1 C.2.2.2.2.1 (lw_V q1265 q1267 qs36 q79 q1268) rfl rfl rfl ok_X4_sideOf ⟨(Nat.le_of_ble_eq_true rfl), (Nat.le_of_ble_eq_true rfl)⟩) (mh_0 G) rfl (Nat.le_of_ble_eq_true rfl) dX4_settle_80 ⟨(Nat.le_of_ble_eq_true rfl), (Nat.le_of_ble_eq_true rfl)⟩ (fun r_80 h_80 n_80 hp_80 hn_80 => ?_)
      obtain ⟨rfl, rfl, rfl⟩ := hp_80
      refine g_iconst C dX4_settle_83 kc_1 ?_
      refine g_icmp_neN (tgt := 91) C dX4_settle_84 (by decide) (by omega) (by omega) (fun c_84 => ?_) (fun c_84 => ?_)
      · refine g_iconst C dX4_settle_91 kc_0 ?_
        refine g_topi (y := nI (st_d c r e true)) (by unfold st_d m_op; rw [if_pos rfl, if_neg c_84]) ?_
        refine g_istore (lv' := [(5, _), (4, _), (3, _), (0, _), (1, _), (2, _)]) C dX4_settle_92 (by decide) rfl ?_
        refine g_pick (lv' := [(0, _), (1, _), (2, _), (3, _), (4, _), (5, _)]) [3, 4, 5, 2, 1, 0] rfl ?_
        exact J94 e true he rfl hIn hy (decide_eq_true c_38)
      · refine g_iconst C dX4_settle_87 kc_3 ?_
        refine g_goto (tgt := 92) C dX4_settle_88 (by decide) ?_
        refine g_topi (y := nI (st_d c r e true)) (by unfold st_d m_op; rw [if_pos rfl, if_pos c_84]) ?_
        refine g_istore (lv' := [(5, _), (4, _), (3, _), (0, _), (1, _), (2, _)]) C dX4_settle_92 (by decide) rfl ?_
        refine g_pick (lv' := [(0, _), (1, _), (2, _), (3, _), (4, _), (5, _)]) [3, 4, 5, 2, 1, 0] rfl ?_
        exact J94 e true he rfl hIn hy (decide_eq_true c_38)
  refine g_aload_n C dX4_settle_0 rfl 0 rfl ?_
  refine g_iload_n C dX4_settle_1 rfl 1 rfl ?_
  refine g_V1I C (met_X4_isEdge G I) (cwV 1 C.2.2.2.2.1 (lw_V q1371 q1373 qs54 q79 q1374) rfl rfl rfl ok_X4_isEdge ⟨(Nat.le_of_ble_eq_true rfl), (Nat.le_of_ble_eq_true rfl)⟩) (mh_0 G) rfl (Nat.le_of_ble_eq_true rfl) dX4_settle_2 ⟨(Nat.le_of_ble_eq_true rfl), (Nat.le_of_ble_eq_true rfl)⟩ (fun r_2 h_2 n_2 hp_2 hn_2 => ?_)
  obtain ⟨rfl, rfl, rfl⟩ := hp_2
  refine g_if_eqB (tgt := 26) C dX4_settle_5 (by decide) (fun c_5 => ?_) (fun c_5 => ?_)
  · refine g_iconst C dX4_settle_26 kc_m1 ?_
    have ho : sp_settle s c r x y = (-1, none) := by unfold sp_settle; rw [c_5]; rfl
    exact g_iret C hr hlk dX4_settle_27 (Nat.le_of_ble_eq_true rfl) (Nat.le_of_ble_eq_true rfl) rfl ⟨_, rfl, ⟨_, _, by rw [ho], by rw [ho]; rfl, rfl⟩⟩
  · obtain ⟨e, he, rfl⟩ := isIn_ex c_5
    have hfs := m_fs_lt I he
    refine g_iload_n C dX4_settle_8 rfl 2 rfl ?_
    refine g_aload_n C dX4_settle_9 rfl 0 rfl ?_
    refine g_iload_n C dX4_settle_10 rfl 1 rfl ?_
    refine g_V1I C (met_X4_firstOf G I (by first | assumption | omega)) (cwV 1 C.2.2.2.2.1 (lw_V q1261 q1263 qs35 q79 q1264) rfl rfl rfl ok_X4_firstOf ⟨(Nat.le_of_ble_eq_true rfl), (Nat.le_of_ble_eq_true rfl)⟩) (mh_0 G) rfl (Nat.le_of_ble_eq_true rfl) dX4_settle_11 ⟨(Nat.le_of_ble_eq_true rfl), (Nat.le_of_ble_eq_true rfl)⟩ (fun r_11 h_11 n_11 hp_11 hn_11 => ?_)
    obtain ⟨rfl, rfl, rfl⟩ := hp_11
    refine g_icmp_eq (tgt := 28) C dX4_settle_14 (by decide) (fun c_14 => ?_) (fun c_14 => ?_)
    · exact J28 e he rfl c_5 (Or.inl c_14)
    · refine g_iload_n C dX4_settle_17 rfl 2 rfl ?_
      refine g_aload_n C dX4_settle_18 rfl 0 rfl ?_
      refine g_iload_n C dX4_settle_19 rfl 1 rfl ?_
      refine g_V1I C (met_X4_secondOf G I (by first | assumption | omega)) (cwV 1 C.2.2.2.2.1 (lw_V q1277 q1279 qs39 q79 q1280) rfl rfl rfl ok_X4_secondOf ⟨(Nat.le_of_ble_eq_true rfl), (Nat.le_of_ble_eq_true rfl)⟩) (mh_0 G) rfl (Nat.le_of_ble_eq_true rfl) dX4_settle_20 ⟨(Nat.le_of_ble_eq_true rfl), (Nat.le_of_ble_eq_true rfl)⟩ (fun r_20 h_20 n_20 hp_20 hn_20 => ?_)
      obtain ⟨rfl, rfl, rfl⟩ := hp_20
      refine g_icmp_eq (tgt := 28) C dX4_settle_23 (by decide) (fun c_23 => ?_) (fun c_23 => ?_)
      · exact J28 e he rfl c_5 (Or.inr c_23)
      · refine g_iconst C dX4_settle_26 kc_m1 ?_
        have ho : sp_settle s c r (nI e) y = (-1, none) := by unfold sp_settle; rw [c_5, tn_nI (by omega), decide_eq_false c_14, decide_eq_false c_23]; rfl
        exact g_iret C hr hlk dX4_settle_27 (Nat.le_of_ble_eq_true rfl) (Nat.le_of_ble_eq_true rfl) rfl ⟨_, rfl, ⟨_, _, by rw [ho], by rw [ho]; rfl, rfl⟩⟩
