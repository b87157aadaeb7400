def rdS (s : Nat → Int32) (c r k z : Nat) : Int32 := if z = 0 then nI (k % c) else if z = 1 then nI (k / c) else if z = 2 then nI (m_eof s c r k false) else if z = 3 then nI (m_eof s c r k true) else if z = 4 then s (ix k 50) else if z = 5 then s (ix k 51) else if z = 6 then bI (m_upd s k) else if z = 7 then s (ix k 52) else if z = 8 then nI (m_sgn s k) else nI (m_bl s c r k)
def rd_sheet (s : Nat → Int32) (c r : Nat) (x y : Int32) : Int32 := if isIn x (c * r) && isIn y 10 then rdS s c r (tn x) (tn y) else -1
def rdE (s : Nat → Int32) (c r e z : Nat) : Int32 := if z = 0 then nI (m_fst c r e) else if z = 1 then nI (m_snd c r e) else if z = 2 then nI (m_sd c r e) else if z = 3 then s (4 + e) else if z = 4 then nI (m_qn s c r e) else if z = 5 then nI (m_cr s c r e) else bI (m_fit s c r e)
def rd_edge (s : Nat → Int32) (c r : Nat) (x y : Int32) : Int32 := if isIn x (m_ed c r) && isIn y 7 then rdE s c r (tn x) (tn y) else -1
def rdC (s : Nat → Int32) (c r q : Nat) (ty : Int32) (z : Nat) : Int32 := if z = 0 then s 0 else if z = 1 then s 1 else if z = 2 then nI (c * r) else if z = 3 then nI (m_ed c r) else if z = 4 then nI (m_sum s c r 4) else if z = 5 then nI (m_sum s c r 5) else if z = 6 then nI (m_sum s c r 6) else if z = 7 then nI (m_bn s c r) else if z = 8 then nI (m_pub s c r false) else if z = 9 then nI (m_pub s c r true) else if z = 10 then nI (m_sum s c r 10) else if z = 11 then nI q else if z = 12 then ty else if z = 13 then s 2 else s 3
def rd_count (s : Nat → Int32) (c r q : Nat) (ty : Int32) (x : Int32) : Int32 := if isIn x 15 then rdC s c r q ty (tn x) else -1
def rd_str (s : Nat → Int32) (c r : Nat) (x y : Int32) : Int32 := if isIn x (c * r) && isIn y 10000001 then FP.f2i (FP.fmul (FP.i2f y) (f_sc (s (ix (tn x) 52)))) else -1
theorem sw15 (x : Int32) : isIn x 15 = false ∨ x = nI 0 ∨ x = nI 1 ∨ x = nI 2 ∨ x = nI 3 ∨ x = nI 4 ∨ x = nI 5 ∨ x = nI 6 ∨ x = nI 7 ∨ x = nI 8 ∨ x = nI 9 ∨ x = nI 10 ∨ x = nI 11 ∨ x = nI 12 ∨ x = nI 13 ∨ x = nI 14 := by
  cases h : isIn x 15 with
  | false => exact Or.inl rfl
  | true =>
    obtain ⟨k, hk, rfl⟩ := isIn_ex h
    rcases (show k = 0 ∨ k = 1 ∨ k = 2 ∨ k = 3 ∨ k = 4 ∨ k = 5 ∨ k = 6 ∨ k = 7 ∨ k = 8 ∨ k = 9 ∨ k = 10 ∨ k = 11 ∨ k = 12 ∨ k = 13 ∨ k = 14 by omega) with rfl | rfl | rfl | rfl | rfl | rfl | rfl | rfl | rfl | rfl | rfl | rfl | rfl | rfl | rfl <;> simp
theorem isIn_out {x : Int32} {n : Nat} (h : isIn x n = false) : x.toInt < 0 ∨ (n : Int) - 1 < x.toInt := by
  have := of_decide_eq_false h
  omega
theorem ok_X4_sheet : yX4_sheet.cls = "MapSheetsModel" ∧ yX4_sheet.cls ≠ "java/lang/invoke/MethodHandle" ∧ yX4_sheet.cls ≠ "java/lang/invoke/VarHandle" ∧ (parseMethodDescriptor yX4_sheet.desc).map (fun d => d.parameters.length) = some 2 := by decide +kernel
set_option maxHeartbeats 4000000 in
set_option maxRecDepth 100000 in
theorem met_X4_sheet {l : Launch} {D : va_G} {b0 n : Nat} {h0 : GH} {g : Nat → Nat} {s w a t b : Nat → Int32} {ty : Int32} {c : Nat} {r : Nat} {q : Nat} {x : Int32} {y : Int32} (G : gM b0 g) (I : MI s c r) (V : MV s) (hq : q ≤ 4) : gMet l yX4_sheet cX4_sheet 3 ((some .int)) 5 108 0 0 D b0 (mh h0 D g s w a t b (nI q) ty) n [.ref (g 0), .int x, .int y] (pI (fun r' h' n' => ∃ a' b', rd_sheet s c r x y = r' ∧ mh h0 D g s w a' t b' (nI q) ty = h' ∧ n = n')) := by
  refine gMet.of (lv := [(0, _), (1, _), (2, _)]) (by decide) (Nat.le_of_ble_eq_true rfl) rfl ?_
  intro p_ e_ U0 m_ args_ below_ meth_ co_ C hr hlk hnm
  have hI := m_ed_le I
  obtain ⟨I0, I1, I2, I3, I4, I5⟩ := id I
  refine g_aload_n C dX4_sheet_0 rfl 0 rfl ?_
  refine g_iload_n C dX4_sheet_1 rfl 1 rfl ?_
  refine g_V1I C (met_X4_isSheet G I) (cwV 1 C.2.2.2.2.1 (lw_V q1217 q1219 qs24 q79 q1220) rfl rfl rfl ok_X4_isSheet ⟨(Nat.le_of_ble_eq_true rfl), (Nat.le_of_ble_eq_true rfl)⟩) (mh_0 G) rfl (Nat.le_of_ble_eq_true rfl) dX4_sheet_2 ⟨(Nat.le_of_ble_eq_true rfl), (Nat.le_of_ble_eq_true rfl)⟩ (fun r_2 h_2 n_2 hp_2 hn_2 => ?_)
  obtain ⟨rfl, rfl, rfl⟩ := hp_2
  refine g_if_eqB (tgt := 18) C dX4_sheet_5 (by decide) (fun c_5 => ?_) (fun c_5 => ?_)
  · refine g_iconst C dX4_sheet_18 kc_m1 ?_
    exact g_iret C hr hlk dX4_sheet_19 (Nat.le_of_ble_eq_true rfl) (Nat.le_of_ble_eq_true rfl) rfl ⟨_, rfl, ⟨_, _, by unfold rd_sheet; rw [c_5]; rfl, rfl, rfl⟩⟩
  · refine g_iload_n C dX4_sheet_8 rfl 2 rfl ?_
    refine g_iconst C dX4_sheet_9 kc_0 ?_
    refine g_bipush C dX4_sheet_10 kb_9 ?_
    refine g_S3I C (met_X4_in) (va_cwS 3 C.2.2.2.2.1 (lw_S q1186 q1187 q79 q1188) rfl rfl rfl ok_X4_in ⟨(Nat.le_of_ble_eq_true rfl), (Nat.le_of_ble_eq_true rfl)⟩) (Nat.le_of_ble_eq_true rfl) dX4_sheet_12 ⟨(Nat.le_of_ble_eq_true rfl), (Nat.le_of_ble_eq_true rfl)⟩ (fun r_12 h_12 n_12 hp_12 hn_12 => ?_)
    obtain ⟨rfl, rfl, rfl⟩ := hp_12
    refine g_if_neB (tgt := 20) C dX4_sheet_15 (by decide) (fun c_15 => ?_) (fun c_15 => ?_)
    · rw [in0_eq (by omega)] at c_15
      obtain ⟨k, hk, rfl⟩ := isIn_ex c_5
      obtain ⟨z, hz, rfl⟩ := isIn_ex c_15
      have hdv := Nat.div_le_self k c
      refine g_iload_n C dX4_sheet_20 rfl 2 rfl ?_
      rcases (show z = 0 ∨ z = 1 ∨ z = 2 ∨ z = 3 ∨ z = 4 ∨ z = 5 ∨ z = 6 ∨ z = 7 ∨ z = 8 ∨ z = 9 by omega) with rfl | rfl | rfl | rfl | rfl | rfl | rfl | rfl | rfl | rfl
      · refine g_tableIn (off := 55) (tgt := 76) C dX4_sheet_21 (by decide) (by decide) rfl (by decide) ?_
        refine g_iload_n C dX4_sheet_76 rfl 1 rfl ?_
        refine g_aload_n C dX4_sheet_77 rfl 0 rfl ?_
        refine g_get C in_X4 (mh_0 G) rfl 0 (by decide) q1160 (fun _ hx => hx) rfl dX4_sheet_78 ?_
        refine g_iconst C dX4_sheet_81 kc_0 ?_
        refine g_ialdN C (mh_1 G) (by omega) (by omega) dX4_sheet_82 ?_
        refine g_topi (y := nI (c)) I.1 ?_
        refine g_iremN C dX4_sheet_83 (by omega) (by omega) (by omega) ?_
        exact g_iret C hr hlk dX4_sheet_84 (Nat.le_of_ble_eq_true rfl) (Nat.le_of_ble_eq_true rfl) rfl ⟨_, rfl, ⟨_, _, by unfold rd_sheet; rw [c_5, c_15, tn_nI (k := k) (by omega), tn_nI (by omega)]; rfl, rfl, rfl⟩⟩
      · refine g_tableIn (off := 64) (tgt := 85) C dX4_sheet_21 (by decide) (by decide) rfl (by decide) ?_
        refine g_iload_n C dX4_sheet_85 rfl 1 rfl ?_
        refine g_aload_n C dX4_sheet_86 rfl 0 rfl ?_
        refine g_get C in_X4 (mh_0 G) rfl 0 (by decide) q1160 (fun _ hx => hx) rfl dX4_sheet_87 ?_
        refine g_iconst C dX4_sheet_90 kc_0 ?_
        refine g_ialdN C (mh_1 G) (by omega) (by omega) dX4_sheet_91 ?_
        refine g_topi (y := nI (c)) I.1 ?_
        refine g_idivN C dX4_sheet_92 (by omega) (by omega) (by omega) ?_
        exact g_iret C hr hlk dX4_sheet_93 (Nat.le_of_ble_eq_true rfl) (Nat.le_of_ble_eq_true rfl) rfl ⟨_, rfl, ⟨_, _, by unfold rd_sheet; rw [c_5, c_15, tn_nI (k := k) (by omega), tn_nI (by omega)]; rfl, rfl, rfl⟩⟩
      · refine g_tableIn (off := 73) (tgt := 94) C dX4_sheet_21 (by decide) (by decide) rfl (by decide) ?_
        refine g_aload_n C dX4_sheet_94 rfl 0 rfl ?_
        refine g_iload_n C dX4_sheet_95 rfl 1 rfl ?_
        refine g_iload_n C dX4_sheet_96 rfl 2 rfl ?_
        refine g_iconst C dX4_sheet_97 kc_3 ?_
        refine g_icmp_neN (tgt := 105) C dX4_sheet_98 (by decide) (by omega) (by omega) (fun c_98 => ?_) (fun c_98 => absurd c_98 (by omega))
        refine g_iconst C dX4_sheet_105 kc_0 ?_
        refine g_topi (y := bI (false)) (show nI 0 = bI false by decide) ?_
        refine g_V2I C (met_X4_edgesOf (ag := false) G I (by omega)) (cwV 2 C.2.2.2.2.1 (lw_V q1309 q1311 qs42 q79 q1312) rfl rfl rfl ok_X4_edgesOf ⟨(Nat.le_of_ble_eq_true rfl), (Nat.le_of_ble_eq_true rfl)⟩) (mh_0 G) rfl (Nat.le_of_ble_eq_true rfl) dX4_sheet_106 ⟨(Nat.le_of_ble_eq_true rfl), (Nat.le_of_ble_eq_true rfl)⟩ (fun r_106 h_106 n_106 hp_106 hn_106 => ?_)
        obtain ⟨rfl, rfl, rfl⟩ := hp_106
        exact g_iret C hr hlk dX4_sheet_109 (Nat.le_of_ble_eq_true rfl) (Nat.le_of_ble_eq_true rfl) rfl ⟨_, rfl, ⟨_, _, by unfold rd_sheet; rw [c_5, c_15, tn_nI (k := k) (by omega), tn_nI (by omega)]; rfl, rfl, rfl⟩⟩
      · refine g_tableIn (off := 73) (tgt := 94) C dX4_sheet_21 (by decide) (by decide) rfl (by decide) ?_
        refine g_aload_n C dX4_sheet_94 rfl 0 rfl ?_
        refine g_iload_n C dX4_sheet_95 rfl 1 rfl ?_
        refine g_iload_n C dX4_sheet_96 rfl 2 rfl ?_
        refine g_iconst C dX4_sheet_97 kc_3 ?_
        refine g_icmp_neN (tgt := 105) C dX4_sheet_98 (by decide) (by omega) (by omega) (fun c_98 => absurd c_98 (by omega)) (fun c_98 => ?_)
        refine g_iconst C dX4_sheet_101 kc_1 ?_
        refine g_goto (tgt := 106) C dX4_sheet_102 (by decide) ?_
        refine g_topi (y := bI (true)) (show nI 1 = bI true by decide) ?_
        refine g_V2I C (met_X4_edgesOf (ag := true) G I (by omega)) (cwV 2 C.2.2.2.2.1 (lw_V q1309 q1311 qs42 q79 q1312) rfl rfl rfl ok_X4_edgesOf ⟨(Nat.le_of_ble_eq_true rfl), (Nat.le_of_ble_eq_true rfl)⟩) (mh_0 G) rfl (Nat.le_of_ble_eq_true rfl) dX4_sheet_106 ⟨(Nat.le_of_ble_eq_true rfl), (Nat.le_of_ble_eq_true rfl)⟩ (fun r_106 h_106 n_106 hp_106 hn_106 => ?_)
        obtain ⟨rfl, rfl, rfl⟩ := hp_106
        exact g_iret C hr hlk dX4_sheet_109 (Nat.le_of_ble_eq_true rfl) (Nat.le_of_ble_eq_true rfl) rfl ⟨_, rfl, ⟨_, _, by unfold rd_sheet; rw [c_5, c_15, tn_nI (k := k) (by omega), tn_nI (by omega)]; rfl, rfl, rfl⟩⟩
      · refine g_tableIn (off := 123) (tgt := 144) C dX4_sheet_21 (by decide) (by decide) rfl (by decide) ?_
        refine g_aload_n C dX4_sheet_144 rfl 0 rfl ?_
        refine g_iload_n C dX4_sheet_145 rfl 1 rfl ?_
        refine g_bipush C dX4_sheet_146 kb_50 ?_
        refine g_iload_n C dX4_sheet_148 rfl 2 rfl ?_
        refine g_iaddN C dX4_sheet_149 ?_
        refine g_iconst C dX4_sheet_150 kc_4 ?_
        refine g_isubN C dX4_sheet_151 (by omega) ?_
        refine g_V2I C (met_X4_of G (by omega) (by omega)) (cwV 2 C.2.2.2.2.1 (lw_V q1229 q1231 qs27 q79 q1232) rfl rfl rfl ok_X4_of ⟨(Nat.le_of_ble_eq_true rfl), (Nat.le_of_ble_eq_true rfl)⟩) (mh_0 G) rfl (Nat.le_of_ble_eq_true rfl) dX4_sheet_152 ⟨(Nat.le_of_ble_eq_true rfl), (Nat.le_of_ble_eq_true rfl)⟩ (fun r_152 h_152 n_152 hp_152 hn_152 => ?_)
        obtain ⟨rfl, rfl, rfl⟩ := hp_152
        exact g_iret C hr hlk dX4_sheet_155 (Nat.le_of_ble_eq_true rfl) (Nat.le_of_ble_eq_true rfl) rfl ⟨_, rfl, ⟨_, _, by unfold rd_sheet; rw [c_5, c_15, tn_nI (k := k) (by omega), tn_nI (by omega)]; rfl, rfl, rfl⟩⟩
      · refine g_tableIn (off := 123) (tgt := 144) C dX4_sheet_21 (by decide) (by decide) rfl (by decide) ?_
        refine g_aload_n C dX4_sheet_144 rfl 0 rfl ?_
        refine g_iload_n C dX4_sheet_145 rfl 1 rfl ?_
        refine g_bipush C dX4_sheet_146 kb_50 ?_
        refine g_iload_n C dX4_sheet_148 rfl 2 rfl ?_
        refine g_iaddN C dX4_sheet_149 ?_
        refine g_iconst C dX4_sheet_150 kc_4 ?_
        refine g_isubN C dX4_sheet_151 (by omega) ?_
        refine g_V2I C (met_X4_of G (by omega) (by omega)) (cwV 2 C.2.2.2.2.1 (lw_V q1229 q1231 qs27 q79 q1232) rfl rfl rfl ok_X4_of ⟨(Nat.le_of_ble_eq_true rfl), (Nat.le_of_ble_eq_true rfl)⟩) (mh_0 G) rfl (Nat.le_of_ble_eq_true rfl) dX4_sheet_152 ⟨(Nat.le_of_ble_eq_true rfl), (Nat.le_of_ble_eq_true rfl)⟩ (fun r_152 h_152 n_152 hp_152 hn_152 => ?_)
        obtain ⟨rfl, rfl, rfl⟩ := hp_152
        exact g_iret C hr hlk dX4_sheet_155 (Nat.le_of_ble_eq_true rfl) (Nat.le_of_ble_eq_true rfl) rfl ⟨_, rfl, ⟨_, _, by unfold rd_sheet; rw [c_5, c_15, tn_nI (k := k) (by omega), tn_nI (by omega)]; rfl, rfl, rfl⟩⟩
      · refine g_tableIn (off := 89) (tgt := 110) C dX4_sheet_21 (by decide) (by decide) rfl (by decide) ?_
        refine g_aload_n C dX4_sheet_110 rfl 0 rfl ?_
        refine g_iload_n C dX4_sheet_111 rfl 1 rfl ?_
        refine g_V1I C (met_X4_isUpToDate G (by omega)) (cwV 1 C.2.2.2.2.1 (lw_V q1317 q1319 qs44 q79 q1320) rfl rfl rfl ok_X4_isUpToDate ⟨(Nat.le_of_ble_eq_true rfl), (Nat.le_of_ble_eq_true rfl)⟩) (mh_0 G) rfl (Nat.le_of_ble_eq_true rfl) dX4_sheet_112 ⟨(Nat.le_of_ble_eq_true rfl), (Nat.le_of_ble_eq_true rfl)⟩ (fun r_112 h_112 n_112 hp_112 hn_112 => ?_)
        obtain ⟨rfl, rfl, rfl⟩ := hp_112
        refine g_if_eqB (tgt := 122) C dX4_sheet_115 (by decide) (fun c_115 => ?_) (fun c_115 => ?_)
        · refine g_iconst C dX4_sheet_122 kc_0 ?_
          exact g_iret C hr hlk dX4_sheet_123 (Nat.le_of_ble_eq_true rfl) (Nat.le_of_ble_eq_true rfl) rfl ⟨_, rfl, ⟨_, _, by unfold rd_sheet; rw [c_5, c_15, tn_nI (k := k) (by omega), tn_nI (by omega)]; show bI (m_upd s k) = _; rw [c_115]; decide, rfl, rfl⟩⟩
        · refine g_iconst C dX4_sheet_118 kc_1 ?_
          refine g_goto (tgt := 123) C dX4_sheet_119 (by decide) ?_
          exact g_iret C hr hlk dX4_sheet_123 (Nat.le_of_ble_eq_true rfl) (Nat.le_of_ble_eq_true rfl) rfl ⟨_, rfl, ⟨_, _, by unfold rd_sheet; rw [c_5, c_15, tn_nI (k := k) (by omega), tn_nI (by omega)]; show bI (m_upd s k) = _; rw [c_115]; decide, rfl, rfl⟩⟩
      · refine g_tableIn (off := 103) (tgt := 124) C dX4_sheet_21 (by decide) (by decide) rfl (by decide) ?_
        refine g_aload_n C dX4_sheet_124 rfl 0 rfl ?_
        refine g_iload_n C dX4_sheet_125 rfl 1 rfl ?_
        refine g_bipush C dX4_sheet_126 kb_52 ?_
        refine g_V2I C (met_X4_of G (by omega) (by omega)) (cwV 2 C.2.2.2.2.1 (lw_V q1229 q1231 qs27 q79 q1232) rfl rfl rfl ok_X4_of ⟨(Nat.le_of_ble_eq_true rfl), (Nat.le_of_ble_eq_true rfl)⟩) (mh_0 G) rfl (Nat.le_of_ble_eq_true rfl) dX4_sheet_128 ⟨(Nat.le_of_ble_eq_true rfl), (Nat.le_of_ble_eq_true rfl)⟩ (fun r_128 h_128 n_128 hp_128 hn_128 => ?_)
        obtain ⟨rfl, rfl, rfl⟩ := hp_128
        exact g_iret C hr hlk dX4_sheet_131 (Nat.le_of_ble_eq_true rfl) (Nat.le_of_ble_eq_true rfl) rfl ⟨_, rfl, ⟨_, _, by unfold rd_sheet; rw [c_5, c_15, tn_nI (k := k) (by omega), tn_nI (by omega)]; rfl, rfl, rfl⟩⟩
      · refine g_tableIn (off := 111) (tgt := 132) C dX4_sheet_21 (by decide) (by decide) rfl (by decide) ?_
        refine g_aload_n C dX4_sheet_132 rfl 0 rfl ?_
        refine g_iload_n C dX4_sheet_133 rfl 1 rfl ?_
        refine g_V1I C (met_X4_signsOf G (by omega)) (cwV 1 C.2.2.2.2.1 (lw_V q1321 q1323 qs45 q79 q1324) rfl rfl rfl ok_X4_signsOf ⟨(Nat.le_of_ble_eq_true rfl), (Nat.le_of_ble_eq_true rfl)⟩) (mh_0 G) rfl (Nat.le_of_ble_eq_true rfl) dX4_sheet_134 ⟨(Nat.le_of_ble_eq_true rfl), (Nat.le_of_ble_eq_true rfl)⟩ (fun r_134 h_134 n_134 hp_134 hn_134 => ?_)
        obtain ⟨rfl, rfl, rfl⟩ := hp_134
        exact g_iret C hr hlk dX4_sheet_137 (Nat.le_of_ble_eq_true rfl) (Nat.le_of_ble_eq_true rfl) rfl ⟨_, rfl, ⟨_, _, by unfold rd_sheet; rw [c_5, c_15, tn_nI (k := k) (by omega), tn_nI (by omega)]; rfl, rfl, rfl⟩⟩
      · refine g_tableIn (off := 117) (tgt := 138) C dX4_sheet_21 (by decide) (by decide) rfl (by decide) ?_
        refine g_aload_n C dX4_sheet_138 rfl 0 rfl ?_
        refine g_iload_n C dX4_sheet_139 rfl 1 rfl ?_
        refine g_V1I C (met_X4_blockOf G I (by omega)) (cwV 1 C.2.2.2.2.1 (lw_V q1325 q1327 qs46 q79 q1328) rfl rfl rfl ok_X4_blockOf ⟨(Nat.le_of_ble_eq_true rfl), (Nat.le_of_ble_eq_true rfl)⟩) (mh_0 G) rfl (Nat.le_of_ble_eq_true rfl) dX4_sheet_140 ⟨(Nat.le_of_ble_eq_true rfl), (Nat.le_of_ble_eq_true rfl)⟩ (fun r_140 h_140 n_140 hp_140 hn_140 => ?_)
        obtain ⟨rfl, rfl, rfl⟩ := hp_140
        exact g_iret C hr hlk dX4_sheet_143 (Nat.le_of_ble_eq_true rfl) (Nat.le_of_ble_eq_true rfl) rfl ⟨_, rfl, ⟨_, _, by unfold rd_sheet; rw [c_5, c_15, tn_nI (k := k) (by omega), tn_nI (by omega)]; rfl, rfl, rfl⟩⟩
    · rw [in0_eq (by omega)] at c_15
      refine g_iconst C dX4_sheet_18 kc_m1 ?_
      exact g_iret C hr hlk dX4_sheet_19 (Nat.le_of_ble_eq_true rfl) (Nat.le_of_ble_eq_true rfl) rfl ⟨_, rfl, ⟨_, _, by unfold rd_sheet; rw [c_5, c_15]; rfl, rfl, rfl⟩⟩
theorem ok_X4_edge : yX4_edge.cls = "MapSheetsModel" ∧ yX4_edge.cls ≠ "java/lang/invoke/MethodHandle" ∧ yX4_edge.cls ≠ "java/lang/invoke/VarHandle" ∧ (parseMethodDescriptor yX4_edge.desc).map (fun d => d.parameters.length) = some 2 := by decide +kernel
set_option maxHeartbeats 4000000 in
set_option maxRecDepth 100000 in
theorem met_X4_edge {l : Launch} {D : va_G} {b0 n : Nat} {h0 : GH} {g : Nat → Nat} {s w a t b : Nat → Int32} {ty : Int32} {c : Nat} {r : Nat} {q : Nat} {x : Int32} {y : Int32} (G : gM b0 g) (I : MI s c r) (V : MV s) (hq : q ≤ 4) (F : MF s) : gMet l yX4_edge cX4_edge 3 ((some .int)) 6 138 0 0 D b0 (mh h0 D g s w a t b (nI q) ty) n [.ref (g 0), .int x, .int y] (pI (fun r' h' n' => ∃ a' b', rd_edge s c r x y = r' ∧ mh h0 D g s w a' t b' (nI q) ty = h' ∧ n = n')) := by
  refine gMet.of (lv := [(0, _), (1, _), (2, _)]) (by decide) (Nat.le_of_ble_eq_true rfl) rfl ?_
  intro p_ e_ U0 m_ args_ below_ meth_ co_ C hr hlk hnm
  have hI := m_ed_le I
  obtain ⟨I0, I1, I2, I3, I4, I5⟩ := id I
  refine g_aload_n C dX4_edge_0 rfl 0 rfl ?_
  refine g_iload_n C dX4_edge_1 rfl 1 rfl ?_
  refine g_V1I C (met_X4_isEdge G I) (cwV 1 C.2.2.2.2.1 (lw_V q1371 q1373 qs54 q79 q1374) rfl rfl rfl ok_X4_isEdge ⟨(Nat.le_of_ble_eq_true rfl), (Nat.le_of_ble_eq_true rfl)⟩) (mh_0 G) rfl (Nat.le_of_ble_eq_true rfl) dX4_edge_2 ⟨(Nat.le_of_ble_eq_true rfl), (Nat.le_of_ble_eq_true rfl)⟩ (fun r_2 h_2 n_2 hp_2 hn_2 => ?_)
  obtain ⟨rfl, rfl, rfl⟩ := hp_2
  refine g_if_eqB (tgt := 18) C dX4_edge_5 (by decide) (fun c_5 => ?_) (fun c_5 => ?_)
  · refine g_iconst C dX4_edge_18 kc_m1 ?_
    exact g_iret C hr hlk dX4_edge_19 (Nat.le_of_ble_eq_true rfl) (Nat.le_of_ble_eq_true rfl) rfl ⟨_, rfl, ⟨_, _, by unfold rd_edge; rw [c_5]; rfl, rfl, rfl⟩⟩
  · refine g_iload_n C dX4_edge_8 rfl 2 rfl ?_
    refine g_iconst C dX4_edge_9 kc_0 ?_
    refine g_bipush C dX4_edge_10 kb_6 ?_
    refine g_S3I C (met_X4_in) (va_cwS 3 C.2.2.2.2.1 (lw_S q1186 q1187 q79 q1188) rfl rfl rfl ok_X4_in ⟨(Nat.le_of_ble_eq_true rfl), (Nat.le_of_ble_eq_true rfl)⟩) (Nat.le_of_ble_eq_true rfl) dX4_edge_12 ⟨(Nat.le_of_ble_eq_true rfl), (Nat.le_of_ble_eq_true rfl)⟩ (fun r_12 h_12 n_12 hp_12 hn_12 => ?_)
    obtain ⟨rfl, rfl, rfl⟩ := hp_12
    refine g_if_neB (tgt := 20) C dX4_edge_15 (by decide) (fun c_15 => ?_) (fun c_15 => ?_)
    · rw [in0_eq (by omega)] at c_15
      obtain ⟨e, he, rfl⟩ := isIn_ex c_5
      obtain ⟨z, hz, rfl⟩ := isIn_ex c_15
      refine g_iload_n C dX4_edge_20 rfl 2 rfl ?_
      rcases (show z = 0 ∨ z = 1 ∨ z = 2 ∨ z = 3 ∨ z = 4 ∨ z = 5 ∨ z = 6 by omega) with rfl | rfl | rfl | rfl | rfl | rfl | rfl
      · refine g_tableIn (off := 39) (tgt := 60) C dX4_edge_21 (by decide) (by decide) rfl (by decide) ?_
        refine g_aload_n C dX4_edge_60 rfl 0 rfl ?_
        refine g_iload_n C dX4_edge_61 rfl 1 rfl ?_
        refine g_V1I C (met_X4_firstOf G I (by first | assumption | omega)) (cwV 1 C.2.2.2.2.1 (lw_V q1261 q1263 qs35 q79 q1264) rfl rfl rfl ok_X4_firstOf ⟨(Nat.le_of_ble_eq_true rfl), (Nat.le_of_ble_eq_true rfl)⟩) (mh_0 G) rfl (Nat.le_of_ble_eq_true rfl) dX4_edge_62 ⟨(Nat.le_of_ble_eq_true rfl), (Nat.le_of_ble_eq_true rfl)⟩ (fun r_62 h_62 n_62 hp_62 hn_62 => ?_)
        obtain ⟨rfl, rfl, rfl⟩ := hp_62
        exact g_iret C hr hlk dX4_edge_65 (Nat.le_of_ble_eq_true rfl) (Nat.le_of_ble_eq_true rfl) rfl ⟨_, rfl, ⟨_, _, by unfold rd_edge; rw [c_5, c_15, tn_nI (k := e) (by omega), tn_nI (by omega)]; rfl, rfl, rfl⟩⟩
      · refine g_tableIn (off := 45) (tgt := 66) C dX4_edge_21 (by decide) (by decide) rfl (by decide) ?_
        refine g_aload_n C dX4_edge_66 rfl 0 rfl ?_
        refine g_iload_n C dX4_edge_67 rfl 1 rfl ?_
        refine g_V1I C (met_X4_secondOf G I (by first | assumption | omega)) (cwV 1 C.2.2.2.2.1 (lw_V q1277 q1279 qs39 q79 q1280) rfl rfl rfl ok_X4_secondOf ⟨(Nat.le_of_ble_eq_true rfl), (Nat.le_of_ble_eq_true rfl)⟩) (mh_0 G) rfl (Nat.le_of_ble_eq_true rfl) dX4_edge_68 ⟨(Nat.le_of_ble_eq_true rfl), (Nat.le_of_ble_eq_true rfl)⟩ (fun r_68 h_68 n_68 hp_68 hn_68 => ?_)
        obtain ⟨rfl, rfl, rfl⟩ := hp_68
        exact g_iret C hr hlk dX4_edge_71 (Nat.le_of_ble_eq_true rfl) (Nat.le_of_ble_eq_true rfl) rfl ⟨_, rfl, ⟨_, _, by unfold rd_edge; rw [c_5, c_15, tn_nI (k := e) (by omega), tn_nI (by omega)]; rfl, rfl, rfl⟩⟩
      · refine g_tableIn (off := 51) (tgt := 72) C dX4_edge_21 (by decide) (by decide) rfl (by decide) ?_
        refine g_aload_n C dX4_edge_72 rfl 0 rfl ?_
        refine g_iload_n C dX4_edge_73 rfl 1 rfl ?_
        refine g_V1I C (met_X4_sideOf G I (by first | assumption | omega)) (cwV 1 C.2.2.2.2.1 (lw_V q1265 q1267 qs36 q79 q1268) rfl rfl rfl ok_X4_sideOf ⟨(Nat.le_of_ble_eq_true rfl), (Nat.le_of_ble_eq_true rfl)⟩) (mh_0 G) rfl (Nat.le_of_ble_eq_true rfl) dX4_edge_74 ⟨(Nat.le_of_ble_eq_true rfl), (Nat.le_of_ble_eq_true rfl)⟩ (fun r_74 h_74 n_74 hp_74 hn_74 => ?_)
        obtain ⟨rfl, rfl, rfl⟩ := hp_74
        exact g_iret C hr hlk dX4_edge_77 (Nat.le_of_ble_eq_true rfl) (Nat.le_of_ble_eq_true rfl) rfl ⟨_, rfl, ⟨_, _, by unfold rd_edge; rw [c_5, c_15, tn_nI (k := e) (by omega), tn_nI (by omega)]; rfl, rfl, rfl⟩⟩
      · refine g_tableIn (off := 57) (tgt := 78) C dX4_edge_21 (by decide) (by decide) rfl (by decide) ?_
        refine g_aload_n C dX4_edge_78 rfl 0 rfl ?_
        refine g_get C in_X4 (mh_0 G) rfl 0 (by decide) q1160 (fun _ hx => hx) rfl dX4_edge_79 ?_
        refine g_iconst C dX4_edge_82 kc_4 ?_
        refine g_iload_n C dX4_edge_83 rfl 1 rfl ?_
        refine g_iaddN C dX4_edge_84 ?_
        refine g_ialdN C (mh_1 G) (by omega) (by omega) dX4_edge_85 ?_
        exact g_iret C hr hlk dX4_edge_86 (Nat.le_of_ble_eq_true rfl) (Nat.le_of_ble_eq_true rfl) rfl ⟨_, rfl, ⟨_, _, by unfold rd_edge; rw [c_5, c_15, tn_nI (k := e) (by omega), tn_nI (by omega)]; rfl, rfl, rfl⟩⟩
      · refine g_tableIn (off := 66) (tgt := 87) C dX4_edge_21 (by decide) (by decide) rfl (by decide) ?_
        refine g_aload_n C dX4_edge_87 rfl 0 rfl ?_
        refine g_iload_n C dX4_edge_88 rfl 1 rfl ?_
        refine g_V1I C (met_X4_quarrels G I V (by first | assumption | omega)) (cwV 1 C.2.2.2.2.1 (lw_V q1249 q1251 qs32 q79 q1252) rfl rfl rfl ok_X4_quarrels ⟨(Nat.le_of_ble_eq_true rfl), (Nat.le_of_ble_eq_true rfl)⟩) (mh_0 G) rfl (Nat.le_of_ble_eq_true rfl) dX4_edge_89 ⟨(Nat.le_of_ble_eq_true rfl), (Nat.le_of_ble_eq_true rfl)⟩ (fun r_89 h_89 n_89 hp_89 hn_89 => ?_)
        obtain ⟨rfl, rfl, rfl⟩ := hp_89
        exact g_iret C hr hlk dX4_edge_92 (Nat.le_of_ble_eq_true rfl) (Nat.le_of_ble_eq_true rfl) rfl ⟨_, rfl, ⟨_, _, by unfold rd_edge; rw [c_5, c_15, tn_nI (k := e) (by omega), tn_nI (by omega)]; rfl, rfl, rfl⟩⟩
      · refine g_tableIn (off := 72) (tgt := 93) C dX4_edge_21 (by decide) (by decide) rfl (by decide) ?_
        refine g_aload_n C dX4_edge_93 rfl 0 rfl ?_
        refine g_iload_n C dX4_edge_94 rfl 1 rfl ?_
        refine g_V1I C (met_X4_crossings G I V (by first | assumption | omega)) (cwV 1 C.2.2.2.2.1 (lw_V q1375 q1377 qs55 q79 q1378) rfl rfl rfl ok_X4_crossings ⟨(Nat.le_of_ble_eq_true rfl), (Nat.le_of_ble_eq_true rfl)⟩) (mh_0 G) rfl (Nat.le_of_ble_eq_true rfl) dX4_edge_95 ⟨(Nat.le_of_ble_eq_true rfl), (Nat.le_of_ble_eq_true rfl)⟩ (fun r_95 h_95 n_95 hp_95 hn_95 => ?_)
        obtain ⟨rfl, rfl, rfl⟩ := hp_95
        exact g_iret C hr hlk dX4_edge_98 (Nat.le_of_ble_eq_true rfl) (Nat.le_of_ble_eq_true rfl) rfl ⟨_, rfl, ⟨_, _, by unfold rd_edge; rw [c_5, c_15, tn_nI (k := e) (by omega), tn_nI (by omega)]; rfl, rfl, rfl⟩⟩
      · refine g_tableOut (tgt := 99) C dX4_edge_21 (by decide) (by decide) ?_
        refine g_aload_n C dX4_edge_99 rfl 0 rfl ?_
        refine g_iload_n C dX4_edge_100 rfl 1 rfl ?_
        refine g_V1I C (met_X4_fits G I F (by first | assumption | omega)) (cwV 1 C.2.2.2.2.1 (lw_V q1341 q1343 qs49 q79 q1344) rfl rfl rfl ok_X4_fits ⟨(Nat.le_of_ble_eq_true rfl), (Nat.le_of_ble_eq_true rfl)⟩) (mh_0 G) rfl (Nat.le_of_ble_eq_true rfl) dX4_edge_101 ⟨(Nat.le_of_ble_eq_true rfl), (Nat.le_of_ble_eq_true rfl)⟩ (fun r_101 h_101 n_101 hp_101 hn_101 => ?_)
        obtain ⟨rfl, rfl, rfl⟩ := hp_101
        refine g_if_eqB (tgt := 111) C dX4_edge_104 (by decide) (fun c_104 => ?_) (fun c_104 => ?_)
        · refine g_iconst C dX4_edge_111 kc_0 ?_
          exact g_iret C hr hlk dX4_edge_112 (Nat.le_of_ble_eq_true rfl) (Nat.le_of_ble_eq_true rfl) rfl ⟨_, rfl, ⟨_, _, by unfold rd_edge; rw [c_5, c_15, tn_nI (k := e) (by omega), tn_nI (by omega)]; show bI (m_fit s c r e) = _; rw [c_104]; decide, rfl, rfl⟩⟩
        · refine g_iconst C dX4_edge_107 kc_1 ?_
          refine g_goto (tgt := 112) C dX4_edge_108 (by decide) ?_
          exact g_iret C hr hlk dX4_edge_112 (Nat.le_of_ble_eq_true rfl) (Nat.le_of_ble_eq_true rfl) rfl ⟨_, rfl, ⟨_, _, by unfold rd_edge; rw [c_5, c_15, tn_nI (k := e) (by omega), tn_nI (by omega)]; show bI (m_fit s c r e) = _; rw [c_104]; decide, rfl, rfl⟩⟩
    · rw [in0_eq (by omega)] at c_15
      refine g_iconst C dX4_edge_18 kc_m1 ?_
      exact g_iret C hr hlk dX4_edge_19 (Nat.le_of_ble_eq_true rfl) (Nat.le_of_ble_eq_true rfl) rfl ⟨_, rfl, ⟨_, _, by unfold rd_edge; rw [c_5, c_15]; rfl, rfl, rfl⟩⟩
theorem ok_X4_count : yX4_count.cls = "MapSheetsModel" ∧ yX4_count.cls ≠ "java/lang/invoke/MethodHandle" ∧ yX4_count.cls ≠ "java/lang/invoke/VarHandle" ∧ (parseMethodDescriptor yX4_count.desc).map (fun d => d.parameters.length) = some 1 := by decide +kernel
set_option maxHeartbeats 4000000 in
set_option maxRecDepth 100000 in
theorem met_X4_count {l : Launch} {D : va_G} {b0 n : Nat} {h0 : GH} {g : Nat → Nat} {s w a t b : Nat → Int32} {ty : Int32} {c : Nat} {r : Nat} {q : Nat} {x : Int32} (G : gM b0 g) (I : MI s c r) (V : MV s) (hq : q ≤ 4) (F : MF s) : gMet l yX4_count cX4_count 2 ((some .int)) 7 163 0 0 D b0 (mh h0 D g s w a t b (nI q) ty) n [.ref (g 0), .int x] (pI (fun r' h' n' => ∃ a' b', rd_count s c r q ty x = r' ∧ mh h0 D g s w a' t b' (nI q) ty = h' ∧ n = n')) := by
  refine gMet.of (lv := [(0, _), (1, _)]) (by decide) (Nat.le_of_ble_eq_true rfl) rfl ?_
  intro p_ e_ U0 m_ args_ below_ meth_ co_ C hr hlk hnm
  have hI := m_ed_le I
  obtain ⟨I0, I1, I2, I3, I4, I5⟩ := id I
  refine g_iload_n C dX4_count_0 rfl 1 rfl ?_
  rcases sw15 x with hx | rfl | rfl | rfl | rfl | rfl | rfl | rfl | rfl | rfl | rfl | rfl | rfl | rfl | rfl | rfl
  · refine g_tableOut (tgt := 142) C dX4_count_1 (isIn_out hx) (by decide) ?_
    refine g_iconst C dX4_count_142 kc_m1 ?_
    exact g_iret C hr hlk dX4_count_143 (Nat.le_of_ble_eq_true rfl) (Nat.le_of_ble_eq_true rfl) rfl ⟨_, rfl, ⟨_, _, by unfold rd_count; rw [hx]; rfl, rfl, rfl⟩⟩
  · refine g_tableIn (off := 75) (tgt := 76) C dX4_count_1 (by decide) (by decide) rfl (by decide) ?_
    refine g_aload_n C dX4_count_76 rfl 0 rfl ?_
    refine g_get C in_X4 (mh_0 G) rfl 0 (by decide) q1160 (fun _ hx => hx) rfl dX4_count_77 ?_
    refine g_iload_n C dX4_count_80 rfl 1 rfl ?_
    refine g_ialdN C (mh_1 G) (by omega) (by omega) dX4_count_81 ?_
    exact g_iret C hr hlk dX4_count_82 (Nat.le_of_ble_eq_true rfl) (Nat.le_of_ble_eq_true rfl) rfl ⟨_, rfl, ⟨_, _, by unfold rd_count; rw [isIn_nI (by omega), tn_nI (by omega)]; rfl, rfl, rfl⟩⟩
  · refine g_tableIn (off := 75) (tgt := 76) C dX4_count_1 (by decide) (by decide) rfl (by decide) ?_
    refine g_aload_n C dX4_count_76 rfl 0 rfl ?_
    refine g_get C in_X4 (mh_0 G) rfl 0 (by decide) q1160 (fun _ hx => hx) rfl dX4_count_77 ?_
    refine g_iload_n C dX4_count_80 rfl 1 rfl ?_
    refine g_ialdN C (mh_1 G) (by omega) (by omega) dX4_count_81 ?_
    exact g_iret C hr hlk dX4_count_82 (Nat.le_of_ble_eq_true rfl) (Nat.le_of_ble_eq_true rfl) rfl ⟨_, rfl, ⟨_, _, by unfold rd_count; rw [isIn_nI (by omega), tn_nI (by omega)]; rfl, rfl, rfl⟩⟩
  · refine g_tableIn (off := 82) (tgt := 83) C dX4_count_1 (by decide) (by decide) rfl (by decide) ?_
    refine g_aload_n C dX4_count_83 rfl 0 rfl ?_
    refine g_V0I C (met_X4_sheets G I) (cwV 0 C.2.2.2.2.1 (lw_V q1221 q1223 qs25 q79 q1224) rfl rfl rfl ok_X4_sheets ⟨(Nat.le_of_ble_eq_true rfl), (Nat.le_of_ble_eq_true rfl)⟩) (mh_0 G) rfl (Nat.le_of_ble_eq_true rfl) dX4_count_84 ⟨(Nat.le_of_ble_eq_true rfl), (Nat.le_of_ble_eq_true rfl)⟩ (fun r_84 h_84 n_84 hp_84 hn_84 => ?_)
    obtain ⟨rfl, rfl, rfl⟩ := hp_84
    exact g_iret C hr hlk dX4_count_87 (Nat.le_of_ble_eq_true rfl) (Nat.le_of_ble_eq_true rfl) rfl ⟨_, rfl, ⟨_, _, by unfold rd_count; rw [isIn_nI (by omega), tn_nI (by omega)]; rfl, rfl, rfl⟩⟩
  · refine g_tableIn (off := 87) (tgt := 88) C dX4_count_1 (by decide) (by decide) rfl (by decide) ?_
    refine g_aload_n C dX4_count_88 rfl 0 rfl ?_
    refine g_V0I C (met_X4_edges G I) (cwV 0 C.2.2.2.2.1 (lw_V q1193 q1195 qs20 q79 q1196) rfl rfl rfl ok_X4_edges ⟨(Nat.le_of_ble_eq_true rfl), (Nat.le_of_ble_eq_true rfl)⟩) (mh_0 G) rfl (Nat.le_of_ble_eq_true rfl) dX4_count_89 ⟨(Nat.le_of_ble_eq_true rfl), (Nat.le_of_ble_eq_true rfl)⟩ (fun r_89 h_89 n_89 hp_89 hn_89 => ?_)
    obtain ⟨rfl, rfl, rfl⟩ := hp_89
    exact g_iret C hr hlk dX4_count_92 (Nat.le_of_ble_eq_true rfl) (Nat.le_of_ble_eq_true rfl) rfl ⟨_, rfl, ⟨_, _, by unfold rd_count; rw [isIn_nI (by omega), tn_nI (by omega)]; rfl, rfl, rfl⟩⟩
  · refine g_tableIn (off := 92) (tgt := 93) C dX4_count_1 (by decide) (by decide) rfl (by decide) ?_
    refine g_aload_n C dX4_count_93 rfl 0 rfl ?_
    refine g_iload_n C dX4_count_94 rfl 1 rfl ?_
    refine g_V1I C (met_X4_sumOf G I V F (by omega)) (cwV 1 C.2.2.2.2.1 (lw_V q1337 q1339 qs48 q79 q1340) rfl rfl rfl ok_X4_sumOf ⟨(Nat.le_of_ble_eq_true rfl), (Nat.le_of_ble_eq_true rfl)⟩) (mh_0 G) rfl (Nat.le_of_ble_eq_true rfl) dX4_count_95 ⟨(Nat.le_of_ble_eq_true rfl), (Nat.le_of_ble_eq_true rfl)⟩ (fun r_95 h_95 n_95 hp_95 hn_95 => ?_)
    obtain ⟨rfl, rfl, rfl⟩ := hp_95
    exact g_iret C hr hlk dX4_count_98 (Nat.le_of_ble_eq_true rfl) (Nat.le_of_ble_eq_true rfl) rfl ⟨_, rfl, ⟨_, _, by unfold rd_count; rw [isIn_nI (by omega), tn_nI (by omega)]; rfl, rfl, rfl⟩⟩
  · refine g_tableIn (off := 92) (tgt := 93) C dX4_count_1 (by decide) (by decide) rfl (by decide) ?_
    refine g_aload_n C dX4_count_93 rfl 0 rfl ?_
    refine g_iload_n C dX4_count_94 rfl 1 rfl ?_
    refine g_V1I C (met_X4_sumOf G I V F (by omega)) (cwV 1 C.2.2.2.2.1 (lw_V q1337 q1339 qs48 q79 q1340) rfl rfl rfl ok_X4_sumOf ⟨(Nat.le_of_ble_eq_true rfl), (Nat.le_of_ble_eq_true rfl)⟩) (mh_0 G) rfl (Nat.le_of_ble_eq_true rfl) dX4_count_95 ⟨(Nat.le_of_ble_eq_true rfl), (Nat.le_of_ble_eq_true rfl)⟩ (fun r_95 h_95 n_95 hp_95 hn_95 => ?_)
    obtain ⟨rfl, rfl, rfl⟩ := hp_95
    exact g_iret C hr hlk dX4_count_98 (Nat.le_of_ble_eq_true rfl) (Nat.le_of_ble_eq_true rfl) rfl ⟨_, rfl, ⟨_, _, by unfold rd_count; rw [isIn_nI (by omega), tn_nI (by omega)]; rfl, rfl, rfl⟩⟩
  · refine g_tableIn (off := 92) (tgt := 93) C dX4_count_1 (by decide) (by decide) rfl (by decide) ?_
    refine g_aload_n C dX4_count_93 rfl 0 rfl ?_
    refine g_iload_n C dX4_count_94 rfl 1 rfl ?_
    refine g_V1I C (met_X4_sumOf G I V F (by omega)) (cwV 1 C.2.2.2.2.1 (lw_V q1337 q1339 qs48 q79 q1340) rfl rfl rfl ok_X4_sumOf ⟨(Nat.le_of_ble_eq_true rfl), (Nat.le_of_ble_eq_true rfl)⟩) (mh_0 G) rfl (Nat.le_of_ble_eq_true rfl) dX4_count_95 ⟨(Nat.le_of_ble_eq_true rfl), (Nat.le_of_ble_eq_true rfl)⟩ (fun r_95 h_95 n_95 hp_95 hn_95 => ?_)
    obtain ⟨rfl, rfl, rfl⟩ := hp_95
    exact g_iret C hr hlk dX4_count_98 (Nat.le_of_ble_eq_true rfl) (Nat.le_of_ble_eq_true rfl) rfl ⟨_, rfl, ⟨_, _, by unfold rd_count; rw [isIn_nI (by omega), tn_nI (by omega)]; rfl, rfl, rfl⟩⟩
  · refine g_tableIn (off := 98) (tgt := 99) C dX4_count_1 (by decide) (by decide) rfl (by decide) ?_
    refine g_aload_n C dX4_count_99 rfl 0 rfl ?_
    refine g_V0I C (met_X4_blocks G I) (cwV 0 C.2.2.2.2.1 (lw_V q1355 q1357 qs52 q79 q1358) rfl rfl rfl ok_X4_blocks ⟨(Nat.le_of_ble_eq_true rfl), (Nat.le_of_ble_eq_true rfl)⟩) (mh_0 G) rfl (Nat.le_of_ble_eq_true rfl) dX4_count_100 ⟨(Nat.le_of_ble_eq_true rfl), (Nat.le_of_ble_eq_true rfl)⟩ (fun r_100 h_100 n_100 hp_100 hn_100 => ?_)
    obtain ⟨rfl, rfl, rfl⟩ := hp_100
    exact g_iret C hr hlk dX4_count_103 (Nat.le_of_ble_eq_true rfl) (Nat.le_of_ble_eq_true rfl) rfl ⟨_, rfl, ⟨_, _, by unfold rd_count; rw [isIn_nI (by omega), tn_nI (by omega)]; rfl, rfl, rfl⟩⟩
  · refine g_tableIn (off := 103) (tgt := 104) C dX4_count_1 (by decide) (by decide) rfl (by decide) ?_
    refine g_aload_n C dX4_count_104 rfl 0 rfl ?_
    refine g_iload_n C dX4_count_105 rfl 1 rfl ?_
    refine g_bipush C dX4_count_106 kb_9 ?_
    refine g_icmp_neN (tgt := 115) C dX4_count_108 (by decide) (by omega) (by omega) (fun c_108 => ?_) (fun c_108 => absurd c_108 (by omega))
    refine g_iconst C dX4_count_115 kc_0 ?_
    refine g_topi (y := bI (false)) (show nI 0 = bI false by decide) ?_
    refine g_V1I C (met_X4_published (ag := false) G I) (cwV 1 C.2.2.2.2.1 (lw_V q1359 q1361 qs53 q79 q1362) rfl rfl rfl ok_X4_published ⟨(Nat.le_of_ble_eq_true rfl), (Nat.le_of_ble_eq_true rfl)⟩) (mh_0 G) rfl (Nat.le_of_ble_eq_true rfl) dX4_count_116 ⟨(Nat.le_of_ble_eq_true rfl), (Nat.le_of_ble_eq_true rfl)⟩ (fun r_116 h_116 n_116 hp_116 hn_116 => ?_)
    obtain ⟨rfl, rfl, rfl⟩ := hp_116
    exact g_iret C hr hlk dX4_count_119 (Nat.le_of_ble_eq_true rfl) (Nat.le_of_ble_eq_true rfl) rfl ⟨_, rfl, ⟨_, _, by unfold rd_count; rw [isIn_nI (by omega), tn_nI (by omega)]; rfl, rfl, rfl⟩⟩
  · refine g_tableIn (off := 103) (tgt := 104) C dX4_count_1 (by decide) (by decide) rfl (by decide) ?_
    refine g_aload_n C dX4_count_104 rfl 0 rfl ?_
    refine g_iload_n C dX4_count_105 rfl 1 rfl ?_
    refine g_bipush C dX4_count_106 kb_9 ?_
    refine g_icmp_neN (tgt := 115) C dX4_count_108 (by decide) (by omega) (by omega) (fun c_108 => absurd c_108 (by omega)) (fun c_108 => ?_)
    refine g_iconst C dX4_count_111 kc_1 ?_
    refine g_goto (tgt := 116) C dX4_count_112 (by decide) ?_
    refine g_topi (y := bI (true)) (show nI 1 = bI true by decide) ?_
    refine g_V1I C (met_X4_published (ag := true) G I) (cwV 1 C.2.2.2.2.1 (lw_V q1359 q1361 qs53 q79 q1362) rfl rfl rfl ok_X4_published ⟨(Nat.le_of_ble_eq_true rfl), (Nat.le_of_ble_eq_true rfl)⟩) (mh_0 G) rfl (Nat.le_of_ble_eq_true rfl) dX4_count_116 ⟨(Nat.le_of_ble_eq_true rfl), (Nat.le_of_ble_eq_true rfl)⟩ (fun r_116 h_116 n_116 hp_116 hn_116 => ?_)
    obtain ⟨rfl, rfl, rfl⟩ := hp_116
    exact g_iret C hr hlk dX4_count_119 (Nat.le_of_ble_eq_true rfl) (Nat.le_of_ble_eq_true rfl) rfl ⟨_, rfl, ⟨_, _, by unfold rd_count; rw [isIn_nI (by omega), tn_nI (by omega)]; rfl, rfl, rfl⟩⟩
  · refine g_tableIn (off := 92) (tgt := 93) C dX4_count_1 (by decide) (by decide) rfl (by decide) ?_
    refine g_aload_n C dX4_count_93 rfl 0 rfl ?_
    refine g_iload_n C dX4_count_94 rfl 1 rfl ?_
    refine g_V1I C (met_X4_sumOf G I V F (by omega)) (cwV 1 C.2.2.2.2.1 (lw_V q1337 q1339 qs48 q79 q1340) rfl rfl rfl ok_X4_sumOf ⟨(Nat.le_of_ble_eq_true rfl), (Nat.le_of_ble_eq_true rfl)⟩) (mh_0 G) rfl (Nat.le_of_ble_eq_true rfl) dX4_count_95 ⟨(Nat.le_of_ble_eq_true rfl), (Nat.le_of_ble_eq_true rfl)⟩ (fun r_95 h_95 n_95 hp_95 hn_95 => ?_)
    obtain ⟨rfl, rfl, rfl⟩ := hp_95
    exact g_iret C hr hlk dX4_count_98 (Nat.le_of_ble_eq_true rfl) (Nat.le_of_ble_eq_true rfl) rfl ⟨_, rfl, ⟨_, _, by unfold rd_count; rw [isIn_nI (by omega), tn_nI (by omega)]; rfl, rfl, rfl⟩⟩
  · refine g_tableIn (off := 119) (tgt := 120) C dX4_count_1 (by decide) (by decide) rfl (by decide) ?_
    refine g_aload_n C dX4_count_120 rfl 0 rfl ?_
    refine g_get C in_X4 (mh_0 G) rfl 3 (by decide) q1163 (fun _ hx => hx) rfl dX4_count_121 ?_
    exact g_iret C hr hlk dX4_count_124 (Nat.le_of_ble_eq_true rfl) (Nat.le_of_ble_eq_true rfl) rfl ⟨_, rfl, ⟨_, _, by unfold rd_count; rw [isIn_nI (by omega), tn_nI (by omega)]; rfl, rfl, rfl⟩⟩
  · refine g_tableIn (off := 124) (tgt := 125) C dX4_count_1 (by decide) (by decide) rfl (by decide) ?_
    refine g_aload_n C dX4_count_125 rfl 0 rfl ?_
    refine g_get C in_X4 (mh_0 G) rfl 5 (by decide) q1165 (fun _ hx => hx) rfl dX4_count_126 ?_
    exact g_iret C hr hlk dX4_count_129 (Nat.le_of_ble_eq_true rfl) (Nat.le_of_ble_eq_true rfl) rfl ⟨_, rfl, ⟨_, _, by unfold rd_count; rw [isIn_nI (by omega), tn_nI (by omega)]; rfl, rfl, rfl⟩⟩
  · refine g_tableIn (off := 129) (tgt := 130) C dX4_count_1 (by decide) (by decide) rfl (by decide) ?_
    refine g_aload_n C dX4_count_130 rfl 0 rfl ?_
    refine g_get C in_X4 (mh_0 G) rfl 0 (by decide) q1160 (fun _ hx => hx) rfl dX4_count_131 ?_
    refine g_iconst C dX4_count_134 kc_2 ?_
    refine g_iload_n C dX4_count_135 rfl 1 rfl ?_
    refine g_iaddN C dX4_count_136 ?_
    refine g_bipush C dX4_count_137 kb_13 ?_
    refine g_isubN C dX4_count_139 (by omega) ?_
    refine g_ialdN C (mh_1 G) (by omega) (by omega) dX4_count_140 ?_
    exact g_iret C hr hlk dX4_count_141 (Nat.le_of_ble_eq_true rfl) (Nat.le_of_ble_eq_true rfl) rfl ⟨_, rfl, ⟨_, _, by unfold rd_count; rw [isIn_nI (by omega), tn_nI (by omega)]; rfl, rfl, rfl⟩⟩
  · refine g_tableIn (off := 129) (tgt := 130) C dX4_count_1 (by decide) (by decide) rfl (by decide) ?_
    refine g_aload_n C dX4_count_130 rfl 0 rfl ?_
    refine g_get C in_X4 (mh_0 G) rfl 0 (by decide) q1160 (fun _ hx => hx) rfl dX4_count_131 ?_
    refine g_iconst C dX4_count_134 kc_2 ?_
    refine g_iload_n C dX4_count_135 rfl 1 rfl ?_
    refine g_iaddN C dX4_count_136 ?_
    refine g_bipush C dX4_count_137 kb_13 ?_
    refine g_isubN C dX4_count_139 (by omega) ?_
    refine g_ialdN C (mh_1 G) (by omega) (by omega) dX4_count_140 ?_
    exact g_iret C hr hlk dX4_count_141 (Nat.le_of_ble_eq_true rfl) (Nat.le_of_ble_eq_true rfl) rfl ⟨_, rfl, ⟨_, _, by unfold rd_count; rw [isIn_nI (by omega), tn_nI (by omega)]; rfl, rfl, rfl⟩⟩
theorem ok_X4_stretched : yX4_stretched.cls = "MapSheetsModel" ∧ yX4_stretched.cls ≠ "java/lang/invoke/MethodHandle" ∧ yX4_stretched.cls ≠ "java/lang/invoke/VarHandle" ∧ (parseMethodDescriptor yX4_stretched.desc).map (fun d => d.parameters.length) = some 2 := by decide +kernel
set_option maxHeartbeats 4000000 in
set_option maxRecDepth 100000 in
theorem met_X4_stretched {l : Launch} {D : va_G} {b0 n : Nat} {h0 : GH} {g : Nat → Nat} {s w a t b : Nat → Int32} {ty : Int32} {c : Nat} {r : Nat} {q : Nat} {x : Int32} {y : Int32} (G : gM b0 g) (I : MI s c r) (V : MV s) (hq : q ≤ 4) (F : MF s) : gMet l yX4_stretched cX4_stretched 3 ((some .int)) 2 43 0 0 D b0 (mh h0 D g s w a t b (nI q) ty) n [.ref (g 0), .int x, .int y] (pI (fun r' h' n' => ∃ a' b', rd_str s c r x y = r' ∧ mh h0 D g s w a' t b' (nI q) ty = h' ∧ n = n')) := by
  refine gMet.of (lv := [(0, _), (1, _), (2, _)]) (by decide) (Nat.le_of_ble_eq_true rfl) rfl ?_
  intro p_ e_ U0 m_ args_ below_ meth_ co_ C hr hlk hnm
  have hI := m_ed_le I
  obtain ⟨I0, I1, I2, I3, I4, I5⟩ := id I
  refine g_aload_n C dX4_stretched_0 rfl 0 rfl ?_
  refine g_iload_n C dX4_stretched_1 rfl 1 rfl ?_
  refine g_V1I C (met_X4_isSheet G I) (cwV 1 C.2.2.2.2.1 (lw_V q1217 q1219 qs24 q79 q1220) rfl rfl rfl ok_X4_isSheet ⟨(Nat.le_of_ble_eq_true rfl), (Nat.le_of_ble_eq_true rfl)⟩) (mh_0 G) rfl (Nat.le_of_ble_eq_true rfl) dX4_stretched_2 ⟨(Nat.le_of_ble_eq_true rfl), (Nat.le_of_ble_eq_true rfl)⟩ (fun r_2 h_2 n_2 hp_2 hn_2 => ?_)
  obtain ⟨rfl, rfl, rfl⟩ := hp_2
  refine g_if_eqB (tgt := 30) C dX4_stretched_5 (by decide) (fun c_5 => ?_) (fun c_5 => ?_)
  · refine g_iconst C dX4_stretched_30 kc_m1 ?_
    exact g_iret C hr hlk dX4_stretched_31 (Nat.le_of_ble_eq_true rfl) (Nat.le_of_ble_eq_true rfl) rfl ⟨_, rfl, ⟨_, _, by unfold rd_str; rw [c_5]; rfl, rfl, rfl⟩⟩
  · refine g_iload_n C dX4_stretched_8 rfl 2 rfl ?_
    refine g_iconst C dX4_stretched_9 kc_0 ?_
    refine g_ldc C q1425 dX4_stretched_10 ?_
    refine g_topi (y := nI 10000000) rfl ?_
    refine g_S3I C (met_X4_in) (va_cwS 3 C.2.2.2.2.1 (lw_S q1186 q1187 q79 q1188) rfl rfl rfl ok_X4_in ⟨(Nat.le_of_ble_eq_true rfl), (Nat.le_of_ble_eq_true rfl)⟩) (Nat.le_of_ble_eq_true rfl) dX4_stretched_12 ⟨(Nat.le_of_ble_eq_true rfl), (Nat.le_of_ble_eq_true rfl)⟩ (fun r_12 h_12 n_12 hp_12 hn_12 => ?_)
    obtain ⟨rfl, rfl, rfl⟩ := hp_12
    refine g_if_eqB (tgt := 30) C dX4_stretched_15 (by decide) (fun c_15 => ?_) (fun c_15 => ?_)
    · rw [in0_eq (by omega)] at c_15
      refine g_iconst C dX4_stretched_30 kc_m1 ?_
      exact g_iret C hr hlk dX4_stretched_31 (Nat.le_of_ble_eq_true rfl) (Nat.le_of_ble_eq_true rfl) rfl ⟨_, rfl, ⟨_, _, by unfold rd_str; rw [c_5, c_15]; rfl, rfl, rfl⟩⟩
    · rw [in0_eq (by omega)] at c_15
      obtain ⟨k, hk, rfl⟩ := isIn_ex c_5
      obtain ⟨z, hz, rfl⟩ := isIn_ex c_15
      refine g_iload_n C dX4_stretched_18 rfl 2 rfl ?_
      refine g_i2f C dX4_stretched_19 ?_
      refine g_aload_n C dX4_stretched_20 rfl 0 rfl ?_
      refine g_iload_n C dX4_stretched_21 rfl 1 rfl ?_
      refine g_V1F C (met_X4_scaleOf G F (by omega)) (cwV 1 C.2.2.2.2.1 (lw_V q1349 q1351 qs51 q79 q1352) rfl rfl rfl ok_X4_scaleOf ⟨(Nat.le_of_ble_eq_true rfl), (Nat.le_of_ble_eq_true rfl)⟩) (mh_0 G) rfl (Nat.le_of_ble_eq_true rfl) dX4_stretched_22 ⟨(Nat.le_of_ble_eq_true rfl), (Nat.le_of_ble_eq_true rfl)⟩ (fun r_22 h_22 n_22 hp_22 hn_22 => ?_)
      obtain ⟨rfl, rfl, rfl⟩ := hp_22
      refine g_fmul C dX4_stretched_25 (fl_mul (by omega) (F.sc (by omega)).1 (by omega) (by omega)) ?_
      refine g_f2i C dX4_stretched_26 ?_
      refine g_goto (tgt := 31) C dX4_stretched_27 (by decide) ?_
      exact g_iret C hr hlk dX4_stretched_31 (Nat.le_of_ble_eq_true rfl) (Nat.le_of_ble_eq_true rfl) rfl ⟨_, rfl, ⟨_, _, by unfold rd_str; rw [c_5, c_15, tn_nI (k := k) (by omega)]; rfl, rfl, rfl⟩⟩
