/-- scales and the tolerance are as they may be -/
def MF (s : Nat → Int32) : Prop := (∀ k, k < 36 → s (ix k 52) = nI (sv s (ix k 52)) ∧ 1 ≤ sv s (ix k 52) ∧ sv s (ix k 52) ≤ 1000000) ∧ s 3 = nI (sv s 3) ∧ sv s 3 ≤ 1000
def f_ab (x : UInt64) : UInt64 := if 0 ≤ Op.cmpValue (FP.dcmp x FP.dconst0) .g then x else FP.dneg x
def f_fit (x y t : Int32) : Bool := decide (¬ 0 < Op.cmpValue (FP.dcmp (f_ab (FP.dsub (FP.f2d (f_rt x y)) FP.dconst1)) (FP.ddiv (FP.i2d t) 4652007308841189376)) .g)
def m_rat (s : Nat → Int32) (c r e : Nat) : UInt32 := f_rt (s (ix (m_fst c r e) 52)) (s (ix (m_snd c r e) 52))
def m_fit (s : Nat → Int32) (c r e : Nat) : Bool := f_fit (s (ix (m_fst c r e) 52)) (s (ix (m_snd c r e) 52)) (s 3)
theorem f_ab_p {x : UInt64} (h : 0 ≤ Op.cmpValue (FP.dcmp x FP.dconst0) .g) : f_ab x = x := by unfold f_ab; rw [if_pos h]
theorem f_ab_n {x : UInt64} (h : ¬ 0 ≤ Op.cmpValue (FP.dcmp x FP.dconst0) .g) : f_ab x = FP.dneg x := by unfold f_ab; rw [if_neg h]
theorem f_fit_t {x y t : Int32} {z : UInt64} (h : f_ab (FP.dsub (FP.f2d (f_rt x y)) FP.dconst1) = z) (h2 : ¬ 0 < Op.cmpValue (FP.dcmp z (FP.ddiv (FP.i2d t) 4652007308841189376)) .g) : f_fit x y t = true := decide_eq_true (by rw [h]; exact h2)
theorem f_fit_f {x y t : Int32} {z : UInt64} (h : f_ab (FP.dsub (FP.f2d (f_rt x y)) FP.dconst1) = z) (h2 : 0 < Op.cmpValue (FP.dcmp z (FP.ddiv (FP.i2d t) 4652007308841189376)) .g) : f_fit x y t = false := decide_eq_false (fun q => q (by rw [h]; exact h2))
theorem MF.sc {s : Nat → Int32} (F : MF s) {k : Nat} (hk : k < 36) : fN (f_sc (s (ix k 52))) (-33) (-7) ∧ vf_n32 (f_sc (s (ix k 52))) := by
  have h := F.1 k hk
  rw [h.1]; exact fl_sc h.2.1 h.2.2
theorem MF.rt {s : Nat → Int32} (F : MF s) {k j : Nat} (hk : k < 36) (hj : j < 36) : fN (f_rt (s (ix k 52)) (s (ix j 52))) (-50) 4 ∧ vf_n32 (f_rt (s (ix k 52)) (s (ix j 52))) := by
  have h := F.1 k hk
  have h' := F.1 j hj
  rw [h.1, h'.1]; exact fl_rt h.2.1 h.2.2 h'.2.1 h'.2.2
theorem MF.tol {s : Nat → Int32} (F : MF s) : vf_n64 (FP.ddiv (FP.i2d (s 3)) 4652007308841189376) := by rw [F.2.1]; exact fl_tol F.2.2
theorem ok_X4_scaleOf : yX4_scaleOf.cls = "MapSheetsModel" ∧ yX4_scaleOf.cls ≠ "java/lang/invoke/MethodHandle" ∧ yX4_scaleOf.cls ≠ "java/lang/invoke/VarHandle" ∧ (parseMethodDescriptor yX4_scaleOf.desc).map (fun d => d.parameters.length) = some 1 := by decide +kernel
set_option maxHeartbeats 4000000 in
set_option maxRecDepth 100000 in
theorem met_X4_scaleOf {l : Launch} {D : va_G} {b0 n : Nat} {h0 : GH} {g : Nat → Nat} {s w a t b : Nat → Int32} {st ty : Int32} {k : Nat} (G : gM b0 g) (F : MF s) (hk : k < 36) : gMet l yX4_scaleOf cX4_scaleOf 2 ((some .float)) 1 22 0 0 D b0 (mh h0 D g s w a t b st ty) n [.ref (g 0), .int (nI k)] (pF (fun r' h' n' => f_sc (s (ix k 52)) = r' ∧ (mh h0 D g s w a t b st ty) = h' ∧ n = n')) := by
  refine gMet.of (lv := [(0, _), (1, _)]) (by decide) (Nat.le_of_ble_eq_true rfl) rfl ?_
  intro p_ e_ U0 m_ args_ below_ meth_ co_ C hr hlk hnm
  refine g_aload_n C dX4_scaleOf_0 rfl 0 rfl ?_
  refine g_iload_n C dX4_scaleOf_1 rfl 1 rfl ?_
  refine g_bipush C dX4_scaleOf_2 kb_52 ?_
  refine g_V2I C (met_X4_of G (by omega) (by omega)) (cwV 2 C.2.2.2.2.1 (lw_V q1229 q1231 qs27 q79 q1232) rfl rfl rfl ok_X4_of ⟨(Nat.le_of_ble_eq_true rfl), (Nat.le_of_ble_eq_true rfl)⟩) (mh_0 G) rfl (Nat.le_of_ble_eq_true rfl) dX4_scaleOf_4 ⟨(Nat.le_of_ble_eq_true rfl), (Nat.le_of_ble_eq_true rfl)⟩ (fun r_4 h_4 n_4 hp_4 hn_4 => ?_)
  obtain ⟨rfl, rfl, rfl⟩ := hp_4
  refine g_i2f C dX4_scaleOf_7 ?_
  refine g_ldcf C q1353 dX4_scaleOf_8 ?_
  refine g_fdiv C dX4_scaleOf_10 (F.sc hk).2 ?_
  exact g_fret C hr hlk dX4_scaleOf_11 (Nat.le_of_ble_eq_true rfl) (Nat.le_of_ble_eq_true rfl) ⟨_, rfl, ⟨rfl, rfl, rfl⟩⟩
theorem ok_X4_ratioOf : yX4_ratioOf.cls = "MapSheetsModel" ∧ yX4_ratioOf.cls ≠ "java/lang/invoke/MethodHandle" ∧ yX4_ratioOf.cls ≠ "java/lang/invoke/VarHandle" ∧ (parseMethodDescriptor yX4_ratioOf.desc).map (fun d => d.parameters.length) = some 1 := by decide +kernel
set_option maxHeartbeats 4000000 in
set_option maxRecDepth 100000 in
theorem met_X4_ratioOf {l : Launch} {D : va_G} {b0 n : Nat} {h0 : GH} {g : Nat → Nat} {s w a t b : Nat → Int32} {st ty : Int32} {c : Nat} {r : Nat} {e : Nat} (G : gM b0 g) (I : MI s c r) (F : MF s) (he : e < m_ed c r) : gMet l yX4_ratioOf cX4_ratioOf 2 ((some .float)) 3 63 0 0 D b0 (mh h0 D g s w a t b st ty) n [.ref (g 0), .int (nI e)] (pF (fun r' h' n' => m_rat s c r e = r' ∧ (mh h0 D g s w a t b st ty) = h' ∧ n = n')) := by
  refine gMet.of (lv := [(0, _), (1, _)]) (by decide) (Nat.le_of_ble_eq_true rfl) rfl ?_
  intro p_ e_ U0 m_ args_ below_ meth_ co_ C hr hlk hnm
  have hI := m_ed_le I
  obtain ⟨I0, I1, I2, I3, I4, I5⟩ := id I
  have hfs := m_fs_lt I he
  refine g_aload_n C dX4_ratioOf_0 rfl 0 rfl ?_
  refine g_aload_n C dX4_ratioOf_1 rfl 0 rfl ?_
  refine g_iload_n C dX4_ratioOf_2 rfl 1 rfl ?_
  refine g_V1I C (met_X4_firstOf G I (by first | assumption | omega)) (cwV 1 C.2.2.2.2.1 (lw_V q1261 q1263 qs35 q79 q1264) rfl rfl rfl ok_X4_firstOf ⟨(Nat.le_of_ble_eq_true rfl), (Nat.le_of_ble_eq_true rfl)⟩) (mh_0 G) rfl (Nat.le_of_ble_eq_true rfl) dX4_ratioOf_3 ⟨(Nat.le_of_ble_eq_true rfl), (Nat.le_of_ble_eq_true rfl)⟩ (fun r_3 h_3 n_3 hp_3 hn_3 => ?_)
  obtain ⟨rfl, rfl, rfl⟩ := hp_3
  refine g_V1F C (met_X4_scaleOf G F (by omega)) (cwV 1 C.2.2.2.2.1 (lw_V q1349 q1351 qs51 q79 q1352) rfl rfl rfl ok_X4_scaleOf ⟨(Nat.le_of_ble_eq_true rfl), (Nat.le_of_ble_eq_true rfl)⟩) (mh_0 G) rfl (Nat.le_of_ble_eq_true rfl) dX4_ratioOf_6 ⟨(Nat.le_of_ble_eq_true rfl), (Nat.le_of_ble_eq_true rfl)⟩ (fun r_6 h_6 n_6 hp_6 hn_6 => ?_)
  obtain ⟨rfl, rfl, rfl⟩ := hp_6
  refine g_aload_n C dX4_ratioOf_9 rfl 0 rfl ?_
  refine g_aload_n C dX4_ratioOf_10 rfl 0 rfl ?_
  refine g_iload_n C dX4_ratioOf_11 rfl 1 rfl ?_
  refine g_V1I C (met_X4_secondOf G I (by first | assumption | omega)) (cwV 1 C.2.2.2.2.1 (lw_V q1277 q1279 qs39 q79 q1280) rfl rfl rfl ok_X4_secondOf ⟨(Nat.le_of_ble_eq_true rfl), (Nat.le_of_ble_eq_true rfl)⟩) (mh_0 G) rfl (Nat.le_of_ble_eq_true rfl) dX4_ratioOf_12 ⟨(Nat.le_of_ble_eq_true rfl), (Nat.le_of_ble_eq_true rfl)⟩ (fun r_12 h_12 n_12 hp_12 hn_12 => ?_)
  obtain ⟨rfl, rfl, rfl⟩ := hp_12
  refine g_V1F C (met_X4_scaleOf G F (by omega)) (cwV 1 C.2.2.2.2.1 (lw_V q1349 q1351 qs51 q79 q1352) rfl rfl rfl ok_X4_scaleOf ⟨(Nat.le_of_ble_eq_true rfl), (Nat.le_of_ble_eq_true rfl)⟩) (mh_0 G) rfl (Nat.le_of_ble_eq_true rfl) dX4_ratioOf_15 ⟨(Nat.le_of_ble_eq_true rfl), (Nat.le_of_ble_eq_true rfl)⟩ (fun r_15 h_15 n_15 hp_15 hn_15 => ?_)
  obtain ⟨rfl, rfl, rfl⟩ := hp_15
  refine g_fdiv C dX4_ratioOf_18 (F.rt (by omega) (by omega)).2 ?_
  exact g_fret C hr hlk dX4_ratioOf_19 (Nat.le_of_ble_eq_true rfl) (Nat.le_of_ble_eq_true rfl) ⟨_, rfl, ⟨rfl, rfl, rfl⟩⟩
theorem ok_X4_fits : yX4_fits.cls = "MapSheetsModel" ∧ yX4_fits.cls ≠ "java/lang/invoke/MethodHandle" ∧ yX4_fits.cls ≠ "java/lang/invoke/VarHandle" ∧ (parseMethodDescriptor yX4_fits.desc).map (fun d => d.parameters.length) = some 1 := by decide +kernel
set_option maxHeartbeats 4000000 in
set_option maxRecDepth 100000 in
theorem met_X4_fits {l : Launch} {D : va_G} {b0 n : Nat} {h0 : GH} {g : Nat → Nat} {s w a t b : Nat → Int32} {st ty : Int32} {c : Nat} {r : Nat} {e : Nat} (G : gM b0 g) (I : MI s c r) (F : MF s) (he : e < m_ed c r) : gMet l yX4_fits cX4_fits 4 ((some .boolean)) 4 84 0 0 D b0 (mh h0 D g s w a t b st ty) n [.ref (g 0), .int (nI e)] (pI (fun r' h' n' => bI (m_fit s c r e) = r' ∧ (mh h0 D g s w a t b st ty) = h' ∧ n = n')) := by
  refine gMet.of (lv := [(0, _), (1, _)]) (by decide) (Nat.le_of_ble_eq_true rfl) rfl ?_
  intro p_ e_ U0 m_ args_ below_ meth_ co_ C hr hlk hnm
  have hI := m_ed_le I
  obtain ⟨I0, I1, I2, I3, I4, I5⟩ := id I
  have hfs := m_fs_lt I he
  have hrt := F.rt (k := m_fst c r e) (j := m_snd c r e) (by omega) (by omega)
  have hfd := fl_f2d hrt.1 (by omega) (by omega)
  obtain ⟨hfd1, cc, qq, hfd2, hfd3, hfd4, hfd5, hfd6⟩ := hfd
  refine g_aload_n C dX4_fits_0 rfl 0 rfl ?_
  refine g_iload_n C dX4_fits_1 rfl 1 rfl ?_
  refine g_V1F C (met_X4_ratioOf G I F (by first | assumption | omega)) (cwV 1 C.2.2.2.2.1 (lw_V q1345 q1347 qs50 q79 q1348) rfl rfl rfl ok_X4_ratioOf ⟨(Nat.le_of_ble_eq_true rfl), (Nat.le_of_ble_eq_true rfl)⟩) (mh_0 G) rfl (Nat.le_of_ble_eq_true rfl) dX4_fits_2 ⟨(Nat.le_of_ble_eq_true rfl), (Nat.le_of_ble_eq_true rfl)⟩ (fun r_2 h_2 n_2 hp_2 hn_2 => ?_)
  obtain ⟨rfl, rfl, rfl⟩ := hp_2
  refine g_f2d C dX4_fits_5 hfd1 ?_
  refine g_dconst1 C dX4_fits_6 ?_
  refine g_dsub C dX4_fits_7 (fl_dsub hfd2 hfd4 hfd5 hfd6) ?_
  refine g_dstore_n (lv' := [(2, _), (0, _), (1, _)]) C dX4_fits_8 rfl (by decide) rfl ?_
  refine g_dload_n C dX4_fits_9 rfl 0 rfl ?_
  refine g_dconst0 C dX4_fits_10 ?_
  refine g_dcmp C dX4_fits_11 ?_
  refine g_if_ge (tgt := 20) C dX4_fits_12 (by decide) (fun c_12 => ?_) (fun c_12 => ?_)
  · refine g_dload_n C dX4_fits_20 rfl 0 rfl ?_
    refine g_aload_n C dX4_fits_21 rfl 1 rfl ?_
    refine g_get C in_X4 (mh_0 G) rfl 0 (by decide) q1160 (fun _ hx => hx) rfl dX4_fits_22 ?_
    refine g_iconst C dX4_fits_25 kc_3 ?_
    refine g_ialdN C (mh_1 G) (by omega) (by omega) dX4_fits_26 ?_
    refine g_i2d C dX4_fits_27 ?_
    refine g_ldc2d C q1354 dX4_fits_28 ?_
    refine g_ddiv C dX4_fits_31 F.tol ?_
    refine g_dcmp C dX4_fits_32 ?_
    refine g_if_gt (tgt := 40) C dX4_fits_33 (by decide) (fun c_33 => ?_) (fun c_33 => ?_)
    · refine g_iconst C dX4_fits_40 kc_0 ?_
      exact g_iret C hr hlk dX4_fits_41 (Nat.le_of_ble_eq_true rfl) (Nat.le_of_ble_eq_true rfl) rfl ⟨_, rfl, ⟨(bI_f (show m_fit s c r e = false from f_fit_f (f_ab_p c_12) c_33)).symm, rfl, rfl⟩⟩
    · refine g_iconst C dX4_fits_36 kc_1 ?_
      refine g_goto (tgt := 41) C dX4_fits_37 (by decide) ?_
      exact g_iret C hr hlk dX4_fits_41 (Nat.le_of_ble_eq_true rfl) (Nat.le_of_ble_eq_true rfl) rfl ⟨_, rfl, ⟨(bI_t (show m_fit s c r e = true from f_fit_t (f_ab_p c_12) c_33)).symm, rfl, rfl⟩⟩
  · refine g_dload_n C dX4_fits_15 rfl 0 rfl ?_
    refine g_dneg C dX4_fits_16 ?_
    refine g_goto (tgt := 21) C dX4_fits_17 (by decide) ?_
    refine g_aload_n C dX4_fits_21 rfl 1 rfl ?_
    refine g_get C in_X4 (mh_0 G) rfl 0 (by decide) q1160 (fun _ hx => hx) rfl dX4_fits_22 ?_
    refine g_iconst C dX4_fits_25 kc_3 ?_
    refine g_ialdN C (mh_1 G) (by omega) (by omega) dX4_fits_26 ?_
    refine g_i2d C dX4_fits_27 ?_
    refine g_ldc2d C q1354 dX4_fits_28 ?_
    refine g_ddiv C dX4_fits_31 F.tol ?_
    refine g_dcmp C dX4_fits_32 ?_
    refine g_if_gt (tgt := 40) C dX4_fits_33 (by decide) (fun c_33 => ?_) (fun c_33 => ?_)
    · refine g_iconst C dX4_fits_40 kc_0 ?_
      exact g_iret C hr hlk dX4_fits_41 (Nat.le_of_ble_eq_true rfl) (Nat.le_of_ble_eq_true rfl) rfl ⟨_, rfl, ⟨(bI_f (show m_fit s c r e = false from f_fit_f (f_ab_n c_12) c_33)).symm, rfl, rfl⟩⟩
    · refine g_iconst C dX4_fits_36 kc_1 ?_
      refine g_goto (tgt := 41) C dX4_fits_37 (by decide) ?_
      exact g_iret C hr hlk dX4_fits_41 (Nat.le_of_ble_eq_true rfl) (Nat.le_of_ble_eq_true rfl) rfl ⟨_, rfl, ⟨(bI_t (show m_fit s c r e = true from f_fit_t (f_ab_n c_12) c_33)).symm, rfl, rfl⟩⟩
/-- a sum over the first n -/
def sumn (f : Nat → Nat) : Nat → Nat
  | 0 => 0
  | n + 1 => sumn f n + f n
theorem sumn_le {f : Nat → Nat} {b : Nat} (h : ∀ i, f i ≤ b) : ∀ n, sumn f n ≤ b * n
  | 0 => Nat.zero_le _
  | n + 1 => by have := sumn_le h n; have := h n; show sumn f n + f n ≤ b * (n + 1); rw [Nat.mul_add]; omega
def m_sm1 (s : Nat → Int32) (c r z e : Nat) : Nat := if z = 4 then (if s (4 + e) = 1 then 1 else 0) else if z = 5 then (if m_qn s c r e = 0 then 1 else 0) else if z = 6 then m_qn s c r e else (if m_fit s c r e then 1 else 0)
theorem m_sm1_le (s : Nat → Int32) (c r z e : Nat) : m_sm1 s c r z e ≤ 10 := by
  have : m_qn s c r e ≤ 10 := cnt_le _ _
  unfold m_sm1
  split
  · split <;> omega
  split
  · split <;> omega
  split
  · omega
  · split <;> omega
def m_sum (s : Nat → Int32) (c r z : Nat) : Nat := sumn (m_sm1 s c r z) (m_ed c r)
theorem ok_X4_sumOf : yX4_sumOf.cls = "MapSheetsModel" ∧ yX4_sumOf.cls ≠ "java/lang/invoke/MethodHandle" ∧ yX4_sumOf.cls ≠ "java/lang/invoke/VarHandle" ∧ (parseMethodDescriptor yX4_sumOf.desc).map (fun d => d.parameters.length) = some 1 := by decide +kernel
set_option maxHeartbeats 4000000 in
set_option maxRecDepth 100000 in
theorem met_X4_sumOf {l : Launch} {D : va_G} {b0 n : Nat} {h0 : GH} {g : Nat → Nat} {s w a t b : Nat → Int32} {st ty : Int32} {c : Nat} {r : Nat} {z : Nat} (G : gM b0 g) (I : MI s c r) (V : MV s) (F : MF s) (hz : z = 4 ∨ z = 5 ∨ z = 6 ∨ z = 10) : gMet l yX4_sumOf cX4_sumOf 6 ((some .int)) 6 138 0 0 D b0 (mh h0 D g s w a t b st ty) n [.ref (g 0), .int (nI z)] (pI (fun r' h' n' => nI (m_sum s c r z) = r' ∧ (mh h0 D g s w a t b st ty) = h' ∧ n = n')) := by
  refine gMet.of (lv := [(0, _), (1, _)]) (by decide) (Nat.le_of_ble_eq_true rfl) rfl ?_
  intro p_ e_ U0 m_ args_ below_ meth_ co_ C hr hlk hnm
  have hI := m_ed_le I
  obtain ⟨I0, I1, I2, I3, I4, I5⟩ := id I
  refine g_iconst C dX4_sumOf_0 kc_0 ?_
  refine g_istore_n (lv' := [(2, _), (0, _), (1, _)]) C dX4_sumOf_1 rfl (by decide) rfl ?_
  refine g_iconst C dX4_sumOf_2 kc_0 ?_
  refine g_istore_n (lv' := [(3, _), (2, _), (0, _), (1, _)]) C dX4_sumOf_3 rfl (by decide) rfl ?_
  have loop : ∀ (N_ i : Nat), i ≤ m_ed c r → m_ed c r < i + N_ → gW p_ l e_ (headSpec (ws_ yX4_sumOf cX4_sumOf 6 ((some .int))) (gRm 6 138 0 0)).room U0 m_ args_ below_ meth_ co_ (MQ below_ (gQc D b0 (pI (fun r' h' n' => nI (m_sum s c r z) = r' ∧ (mh h0 D g s w a t b st ty) = h' ∧ n = n'))) args_ U0 0 0 (gA b0)) D b0 6 (mh h0 D g s w a t b st ty) n 0 0 4 [(0, .ref (g 0)), (1, .int (nI z)), (2, .int (nI (sumn (m_sm1 s c r z) i))), (3, .int (nI i))] [] := by
    intro N_
    induction N_ with
    | zero => intro i h1_ h2_; exact absurd h2_ (by omega)
    | succ N_ ih =>
      intro i h1_ h2_
      have hqn : m_qn s c r i ≤ 10 := cnt_le _ _
      refine g_iload_n C dX4_sumOf_4 rfl 3 rfl ?_
      refine g_aload_n C dX4_sumOf_5 rfl 0 rfl ?_
      refine g_V0I C (met_X4_edges G I) (cwV 0 C.2.2.2.2.1 (lw_V q1193 q1195 qs20 q79 q1196) rfl rfl rfl ok_X4_edges ⟨(Nat.le_of_ble_eq_true rfl), (Nat.le_of_ble_eq_true rfl)⟩) (mh_0 G) rfl (Nat.le_of_ble_eq_true rfl) dX4_sumOf_6 ⟨(Nat.le_of_ble_eq_true rfl), (Nat.le_of_ble_eq_true rfl)⟩ (fun r_6 h_6 n_6 hp_6 hn_6 => ?_)
      obtain ⟨rfl, rfl, rfl⟩ := hp_6
      refine g_icmp_geN (tgt := 104) C dX4_sumOf_9 (by decide) (by omega) (by omega) (fun c_9 => ?_) (fun c_9 => ?_)
      · refine g_iload_n C dX4_sumOf_104 rfl 2 rfl ?_
        exact g_iret C hr hlk dX4_sumOf_105 (Nat.le_of_ble_eq_true rfl) (Nat.le_of_ble_eq_true rfl) rfl ⟨_, rfl, ⟨by rw [show i = m_ed c r by omega]; rfl, rfl, rfl⟩⟩
      · refine g_iload_n C dX4_sumOf_12 rfl 1 rfl ?_
        refine g_bipush C dX4_sumOf_13 kb_6 ?_
        refine g_icmp_neN (tgt := 26) C dX4_sumOf_15 (by decide) (by omega) (by omega) (fun c_15 => ?_) (fun c_15 => ?_)
        · refine g_iconst C dX4_sumOf_26 kc_1 ?_
          refine g_istore (lv' := [(4, _), (0, _), (1, _), (2, _), (3, _)]) C dX4_sumOf_27 (by decide) rfl ?_
          refine g_iload_n C dX4_sumOf_29 rfl 2 rfl ?_
          refine g_iconst C dX4_sumOf_30 kc_4 ?_
          refine g_icmp_neN (tgt := 42) C dX4_sumOf_31 (by decide) (by omega) (by omega) (fun c_31 => ?_) (fun c_31 => ?_)
          · refine g_iload_n C dX4_sumOf_42 rfl 2 rfl ?_
            refine g_iconst C dX4_sumOf_43 kc_5 ?_
            refine g_icmp_neN (tgt := 63) C dX4_sumOf_44 (by decide) (by omega) (by omega) (fun c_44 => ?_) (fun c_44 => ?_)
            · refine g_iload_n C dX4_sumOf_63 rfl 2 rfl ?_
              refine g_bipush C dX4_sumOf_64 kb_6 ?_
              refine g_icmp_eqN (tgt := 77) C dX4_sumOf_66 (by decide) (by omega) (by omega) (fun c_66 => absurd c_66 (by omega)) (fun c_66 => ?_)
              refine g_aload_n C dX4_sumOf_69 rfl 1 rfl ?_
              refine g_iload_n C dX4_sumOf_70 rfl 4 rfl ?_
              refine g_V1I C (met_X4_fits G I F (by first | assumption | omega)) (cwV 1 C.2.2.2.2.1 (lw_V q1341 q1343 qs49 q79 q1344) rfl rfl rfl ok_X4_fits ⟨(Nat.le_of_ble_eq_true rfl), (Nat.le_of_ble_eq_true rfl)⟩) (mh_0 G) rfl (Nat.le_of_ble_eq_true rfl) dX4_sumOf_71 ⟨(Nat.le_of_ble_eq_true rfl), (Nat.le_of_ble_eq_true rfl)⟩ (fun r_71 h_71 n_71 hp_71 hn_71 => ?_)
              obtain ⟨rfl, rfl, rfl⟩ := hp_71
              refine g_if_eqB (tgt := 81) C dX4_sumOf_74 (by decide) (fun c_74 => ?_) (fun c_74 => ?_)
              · refine g_iconst C dX4_sumOf_81 kc_0 ?_
                refine g_istore (lv' := [(5, _), (4, _), (0, _), (1, _), (2, _), (3, _)]) C dX4_sumOf_82 (by decide) rfl ?_
                refine g_iload_n C dX4_sumOf_84 rfl 4 rfl ?_
                refine g_iload C dX4_sumOf_85 0 rfl ?_
                refine g_if_eqN (tgt := 95) C dX4_sumOf_87 (by decide) (by omega) (fun c_87 => ?_) (fun c_87 => absurd c_87 (by omega))
                refine g_iconst C dX4_sumOf_95 kc_0 ?_
                refine g_iaddN C dX4_sumOf_96 ?_
                refine g_istore_n (lv' := [(2, _), (5, _), (4, _), (0, _), (1, _), (3, _)]) C dX4_sumOf_97 rfl (by decide) rfl ?_
                refine g_iinc (lv' := [(3, _), (2, _), (5, _), (4, _), (0, _), (1, _)]) (t := 5) C dX4_sumOf_98 rfl (nI_1 _) (by decide) rfl ?_
                refine g_goto (tgt := 4) C dX4_sumOf_101 (by decide) ?_
                refine g_pick (lv' := [(0, _), (1, _), (2, _), (3, _)]) [4, 5, 1, 0] rfl ?_
                refine g_eq (lv' := [(0, .ref (g 0)), (1, .int (nI z)), (2, .int (nI (sumn (m_sm1 s c r z) (i + 1)))), (3, .int (nI (i + 1)))]) rfl (by rw [show sumn (m_sm1 s c r z) (i + 1) = sumn (m_sm1 s c r z) i + m_sm1 s c r z i from rfl, show m_sm1 s c r z i = 0 from by unfold m_sm1; rw [if_neg c_31, if_neg c_44, if_neg c_15, if_neg (by rw [c_74]; decide)]]) rfl ?_
                exact ih (i + 1) (by omega) (by omega)
              · refine g_iconst C dX4_sumOf_77 kc_1 ?_
                refine g_goto (tgt := 82) C dX4_sumOf_78 (by decide) ?_
                refine g_istore (lv' := [(5, _), (4, _), (0, _), (1, _), (2, _), (3, _)]) C dX4_sumOf_82 (by decide) rfl ?_
                refine g_iload_n C dX4_sumOf_84 rfl 4 rfl ?_
                refine g_iload C dX4_sumOf_85 0 rfl ?_
                refine g_if_eqN (tgt := 95) C dX4_sumOf_87 (by decide) (by omega) (fun c_87 => absurd c_87 (by omega)) (fun c_87 => ?_)
                refine g_iload C dX4_sumOf_90 1 rfl ?_
                refine g_goto (tgt := 96) C dX4_sumOf_92 (by decide) ?_
                refine g_iaddN C dX4_sumOf_96 ?_
                refine g_istore_n (lv' := [(2, _), (5, _), (4, _), (0, _), (1, _), (3, _)]) C dX4_sumOf_97 rfl (by decide) rfl ?_
                refine g_iinc (lv' := [(3, _), (2, _), (5, _), (4, _), (0, _), (1, _)]) (t := 5) C dX4_sumOf_98 rfl (nI_1 _) (by decide) rfl ?_
                refine g_goto (tgt := 4) C dX4_sumOf_101 (by decide) ?_
                refine g_pick (lv' := [(0, _), (1, _), (2, _), (3, _)]) [4, 5, 1, 0] rfl ?_
                refine g_eq (lv' := [(0, .ref (g 0)), (1, .int (nI z)), (2, .int (nI (sumn (m_sm1 s c r z) (i + 1)))), (3, .int (nI (i + 1)))]) rfl (by rw [show sumn (m_sm1 s c r z) (i + 1) = sumn (m_sm1 s c r z) i + m_sm1 s c r z i from rfl, show m_sm1 s c r z i = 1 from by unfold m_sm1; rw [if_neg c_31, if_neg c_44, if_neg c_15, if_pos c_74]]) rfl ?_
                exact ih (i + 1) (by omega) (by omega)
            · refine g_aload_n C dX4_sumOf_47 rfl 1 rfl ?_
              refine g_iload_n C dX4_sumOf_48 rfl 4 rfl ?_
              refine g_V1I C (met_X4_quarrels G I V (by first | assumption | omega)) (cwV 1 C.2.2.2.2.1 (lw_V q1249 q1251 qs32 q79 q1252) rfl rfl rfl ok_X4_quarrels ⟨(Nat.le_of_ble_eq_true rfl), (Nat.le_of_ble_eq_true rfl)⟩) (mh_0 G) rfl (Nat.le_of_ble_eq_true rfl) dX4_sumOf_49 ⟨(Nat.le_of_ble_eq_true rfl), (Nat.le_of_ble_eq_true rfl)⟩ (fun r_49 h_49 n_49 hp_49 hn_49 => ?_)
              obtain ⟨rfl, rfl, rfl⟩ := hp_49
              refine g_if_neN (tgt := 59) C dX4_sumOf_52 (by decide) (by omega) (fun c_52 => ?_) (fun c_52 => ?_)
              · refine g_iconst C dX4_sumOf_59 kc_0 ?_
                refine g_goto (tgt := 82) C dX4_sumOf_60 (by decide) ?_
                refine g_istore (lv' := [(5, _), (4, _), (0, _), (1, _), (2, _), (3, _)]) C dX4_sumOf_82 (by decide) rfl ?_
                refine g_iload_n C dX4_sumOf_84 rfl 4 rfl ?_
                refine g_iload C dX4_sumOf_85 0 rfl ?_
                refine g_if_eqN (tgt := 95) C dX4_sumOf_87 (by decide) (by omega) (fun c_87 => ?_) (fun c_87 => absurd c_87 (by omega))
                refine g_iconst C dX4_sumOf_95 kc_0 ?_
                refine g_iaddN C dX4_sumOf_96 ?_
                refine g_istore_n (lv' := [(2, _), (5, _), (4, _), (0, _), (1, _), (3, _)]) C dX4_sumOf_97 rfl (by decide) rfl ?_
                refine g_iinc (lv' := [(3, _), (2, _), (5, _), (4, _), (0, _), (1, _)]) (t := 5) C dX4_sumOf_98 rfl (nI_1 _) (by decide) rfl ?_
                refine g_goto (tgt := 4) C dX4_sumOf_101 (by decide) ?_
                refine g_pick (lv' := [(0, _), (1, _), (2, _), (3, _)]) [4, 5, 1, 0] rfl ?_
                refine g_eq (lv' := [(0, .ref (g 0)), (1, .int (nI z)), (2, .int (nI (sumn (m_sm1 s c r z) (i + 1)))), (3, .int (nI (i + 1)))]) rfl (by rw [show sumn (m_sm1 s c r z) (i + 1) = sumn (m_sm1 s c r z) i + m_sm1 s c r z i from rfl, show m_sm1 s c r z i = 0 from by unfold m_sm1; rw [if_neg c_31, if_pos c_44, if_neg c_52]]) rfl ?_
                exact ih (i + 1) (by omega) (by omega)
              · refine g_iconst C dX4_sumOf_55 kc_1 ?_
                refine g_goto (tgt := 82) C dX4_sumOf_56 (by decide) ?_
                refine g_istore (lv' := [(5, _), (4, _), (0, _), (1, _), (2, _), (3, _)]) C dX4_sumOf_82 (by decide) rfl ?_
                refine g_iload_n C dX4_sumOf_84 rfl 4 rfl ?_
                refine g_iload C dX4_sumOf_85 0 rfl ?_
                refine g_if_eqN (tgt := 95) C dX4_sumOf_87 (by decide) (by omega) (fun c_87 => absurd c_87 (by omega)) (fun c_87 => ?_)
                refine g_iload C dX4_sumOf_90 1 rfl ?_
                refine g_goto (tgt := 96) C dX4_sumOf_92 (by decide) ?_
                refine g_iaddN C dX4_sumOf_96 ?_
                refine g_istore_n (lv' := [(2, _), (5, _), (4, _), (0, _), (1, _), (3, _)]) C dX4_sumOf_97 rfl (by decide) rfl ?_
                refine g_iinc (lv' := [(3, _), (2, _), (5, _), (4, _), (0, _), (1, _)]) (t := 5) C dX4_sumOf_98 rfl (nI_1 _) (by decide) rfl ?_
                refine g_goto (tgt := 4) C dX4_sumOf_101 (by decide) ?_
                refine g_pick (lv' := [(0, _), (1, _), (2, _), (3, _)]) [4, 5, 1, 0] rfl ?_
                refine g_eq (lv' := [(0, .ref (g 0)), (1, .int (nI z)), (2, .int (nI (sumn (m_sm1 s c r z) (i + 1)))), (3, .int (nI (i + 1)))]) rfl (by rw [show sumn (m_sm1 s c r z) (i + 1) = sumn (m_sm1 s c r z) i + m_sm1 s c r z i from rfl, show m_sm1 s c r z i = 1 from by unfold m_sm1; rw [if_neg c_31, if_pos c_44, if_pos c_52]]) rfl ?_
                exact ih (i + 1) (by omega) (by omega)
          · refine g_aload_n C dX4_sumOf_34 rfl 1 rfl ?_
            refine g_iload_n C dX4_sumOf_35 rfl 4 rfl ?_
            refine g_V1I C (met_X4_isAgreed G (by omega)) (cwV 1 C.2.2.2.2.1 (lw_V q1245 q1247 qs31 q79 q1248) rfl rfl rfl ok_X4_isAgreed ⟨(Nat.le_of_ble_eq_true rfl), (Nat.le_of_ble_eq_true rfl)⟩) (mh_0 G) rfl (Nat.le_of_ble_eq_true rfl) dX4_sumOf_36 ⟨(Nat.le_of_ble_eq_true rfl), (Nat.le_of_ble_eq_true rfl)⟩ (fun r_36 h_36 n_36 hp_36 hn_36 => ?_)
            obtain ⟨rfl, rfl, rfl⟩ := hp_36
            refine g_goto (tgt := 82) C dX4_sumOf_39 (by decide) ?_
            refine g_istore (lv' := [(5, _), (4, _), (0, _), (1, _), (2, _), (3, _)]) C dX4_sumOf_82 (by decide) rfl ?_
            refine g_iload_n C dX4_sumOf_84 rfl 4 rfl ?_
            refine g_iload C dX4_sumOf_85 0 rfl ?_
            refine g_if_eqB (tgt := 95) C dX4_sumOf_87 (by decide) (fun c_87 => ?_) (fun c_87 => ?_)
            · refine g_iconst C dX4_sumOf_95 kc_0 ?_
              refine g_iaddN C dX4_sumOf_96 ?_
              refine g_istore_n (lv' := [(2, _), (5, _), (4, _), (0, _), (1, _), (3, _)]) C dX4_sumOf_97 rfl (by decide) rfl ?_
              refine g_iinc (lv' := [(3, _), (2, _), (5, _), (4, _), (0, _), (1, _)]) (t := 5) C dX4_sumOf_98 rfl (nI_1 _) (by decide) rfl ?_
              refine g_goto (tgt := 4) C dX4_sumOf_101 (by decide) ?_
              refine g_pick (lv' := [(0, _), (1, _), (2, _), (3, _)]) [4, 5, 1, 0] rfl ?_
              refine g_eq (lv' := [(0, .ref (g 0)), (1, .int (nI z)), (2, .int (nI (sumn (m_sm1 s c r z) (i + 1)))), (3, .int (nI (i + 1)))]) rfl (by rw [show sumn (m_sm1 s c r z) (i + 1) = sumn (m_sm1 s c r z) i + m_sm1 s c r z i from rfl, show m_sm1 s c r z i = 0 from by unfold m_sm1; rw [if_pos c_31, if_neg (of_decide_eq_false c_87)]]) rfl ?_
              exact ih (i + 1) (by omega) (by omega)
            · refine g_iload C dX4_sumOf_90 1 rfl ?_
              refine g_goto (tgt := 96) C dX4_sumOf_92 (by decide) ?_
              refine g_iaddN C dX4_sumOf_96 ?_
              refine g_istore_n (lv' := [(2, _), (5, _), (4, _), (0, _), (1, _), (3, _)]) C dX4_sumOf_97 rfl (by decide) rfl ?_
              refine g_iinc (lv' := [(3, _), (2, _), (5, _), (4, _), (0, _), (1, _)]) (t := 5) C dX4_sumOf_98 rfl (nI_1 _) (by decide) rfl ?_
              refine g_goto (tgt := 4) C dX4_sumOf_101 (by decide) ?_
              refine g_pick (lv' := [(0, _), (1, _), (2, _), (3, _)]) [4, 5, 1, 0] rfl ?_
              refine g_eq (lv' := [(0, .ref (g 0)), (1, .int (nI z)), (2, .int (nI (sumn (m_sm1 s c r z) (i + 1)))), (3, .int (nI (i + 1)))]) rfl (by rw [show sumn (m_sm1 s c r z) (i + 1) = sumn (m_sm1 s c r z) i + m_sm1 s c r z i from rfl, show m_sm1 s c r z i = 1 from by unfold m_sm1; rw [if_pos c_31, if_pos (of_decide_eq_true c_87)]]) rfl ?_
              exact ih (i + 1) (by omega) (by omega)
        · refine g_aload_n C dX4_sumOf_18 rfl 0 rfl ?_
          refine g_iload_n C dX4_sumOf_19 rfl 3 rfl ?_
          refine g_V1I C (met_X4_quarrels G I V (by first | assumption | omega)) (cwV 1 C.2.2.2.2.1 (lw_V q1249 q1251 qs32 q79 q1252) rfl rfl rfl ok_X4_quarrels ⟨(Nat.le_of_ble_eq_true rfl), (Nat.le_of_ble_eq_true rfl)⟩) (mh_0 G) rfl (Nat.le_of_ble_eq_true rfl) dX4_sumOf_20 ⟨(Nat.le_of_ble_eq_true rfl), (Nat.le_of_ble_eq_true rfl)⟩ (fun r_20 h_20 n_20 hp_20 hn_20 => ?_)
          obtain ⟨rfl, rfl, rfl⟩ := hp_20
          refine g_goto (tgt := 27) C dX4_sumOf_23 (by decide) ?_
          refine g_istore (lv' := [(4, _), (0, _), (1, _), (2, _), (3, _)]) C dX4_sumOf_27 (by decide) rfl ?_
          refine g_iload_n C dX4_sumOf_29 rfl 2 rfl ?_
          refine g_iconst C dX4_sumOf_30 kc_4 ?_
          refine g_icmp_neN (tgt := 42) C dX4_sumOf_31 (by decide) (by omega) (by omega) (fun c_31 => ?_) (fun c_31 => absurd c_31 (by omega))
          refine g_iload_n C dX4_sumOf_42 rfl 2 rfl ?_
          refine g_iconst C dX4_sumOf_43 kc_5 ?_
          refine g_icmp_neN (tgt := 63) C dX4_sumOf_44 (by decide) (by omega) (by omega) (fun c_44 => ?_) (fun c_44 => absurd c_44 (by omega))
          refine g_iload_n C dX4_sumOf_63 rfl 2 rfl ?_
          refine g_bipush C dX4_sumOf_64 kb_6 ?_
          refine g_icmp_eqN (tgt := 77) C dX4_sumOf_66 (by decide) (by omega) (by omega) (fun c_66 => ?_) (fun c_66 => absurd c_66 (by omega))
          refine g_iconst C dX4_sumOf_77 kc_1 ?_
          refine g_goto (tgt := 82) C dX4_sumOf_78 (by decide) ?_
          refine g_istore (lv' := [(5, _), (4, _), (0, _), (1, _), (2, _), (3, _)]) C dX4_sumOf_82 (by decide) rfl ?_
          refine g_iload_n C dX4_sumOf_84 rfl 4 rfl ?_
          refine g_iload C dX4_sumOf_85 0 rfl ?_
          refine g_if_eqN (tgt := 95) C dX4_sumOf_87 (by decide) (by omega) (fun c_87 => absurd c_87 (by omega)) (fun c_87 => ?_)
          refine g_iload C dX4_sumOf_90 1 rfl ?_
          refine g_goto (tgt := 96) C dX4_sumOf_92 (by decide) ?_
          refine g_iaddN C dX4_sumOf_96 ?_
          refine g_istore_n (lv' := [(2, _), (5, _), (4, _), (0, _), (1, _), (3, _)]) C dX4_sumOf_97 rfl (by decide) rfl ?_
          refine g_iinc (lv' := [(3, _), (2, _), (5, _), (4, _), (0, _), (1, _)]) (t := 5) C dX4_sumOf_98 rfl (nI_1 _) (by decide) rfl ?_
          refine g_goto (tgt := 4) C dX4_sumOf_101 (by decide) ?_
          refine g_pick (lv' := [(0, _), (1, _), (2, _), (3, _)]) [4, 5, 1, 0] rfl ?_
          refine g_eq (lv' := [(0, .ref (g 0)), (1, .int (nI z)), (2, .int (nI (sumn (m_sm1 s c r z) (i + 1)))), (3, .int (nI (i + 1)))]) rfl (by rw [show sumn (m_sm1 s c r z) (i + 1) = sumn (m_sm1 s c r z) i + m_sm1 s c r z i from rfl, show m_sm1 s c r z i = m_qn s c r i from by unfold m_sm1; rw [if_neg (by omega), if_neg (by omega), if_pos c_15]]) rfl ?_
          exact ih (i + 1) (by omega) (by omega)
  refine g_pick (lv' := [(0, _), (1, _), (2, _), (3, _)]) [2, 3, 1, 0] rfl ?_
  exact loop (m_ed c r + 1 - 0) 0 (by omega) (by omega)
