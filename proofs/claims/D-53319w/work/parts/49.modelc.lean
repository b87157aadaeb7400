def rd_ratio (s : Nat → Int32) (c r : Nat) (x : Int32) : Int32 := if isIn x (m_ed c r) then f_bits (m_rat s c r (tn x)) else -1
theorem mh_is {hk : GH} {D : va_G} {g : Nat → Nat} {s w a t b : Nat → Int32} {st ty : Int32} (h0 : hk (g 0) = gO 4 [.ref (g 1), .ref (g 2), .ref (g 3), .int st, .ref (g 4), .int ty, .ref (g 5)]) (h1 : hk (g 1) = gI D 1972 s) (h2 : hk (g 2) = gI D 7888 w) (h3 : hk (g 3) = gI D 1972 a) (h4 : hk (g 4) = gI D 100 t) (h5 : hk (g 5) = gI D 36 b) : hk = mh hk D g s w a t b st ty := by
  funext q
  unfold mh
  split
  · rename_i e; rw [e]; exact h0
  split
  · rename_i e; rw [e]; exact h1
  split
  · rename_i e; rw [e]; exact h2
  split
  · rename_i e; rw [e]; exact h3
  split
  · rename_i e; rw [e]; exact h4
  split
  · rename_i e; rw [e]; exact h5
  rfl
/-- where the reference's cells lie at its birth -/
def gNew (a n : Nat) : Nat → Nat := fun i => if i = 0 then a else n + (i - 1)
theorem gNew_M {b0 a n : Nat} (ha : b0 ≤ a) (hn : a < n) : gM b0 (gNew a n) := by
  unfold gM gNew
  simp
  omega
def m_s0 : Nat → Int32 := upd (upd (fun _ => 0) 2 (nI 1)) 3 (nI 20)
theorem ok_X4_ratio : yX4_ratio.cls = "MapSheetsModel" ∧ yX4_ratio.cls ≠ "java/lang/invoke/MethodHandle" ∧ yX4_ratio.cls ≠ "java/lang/invoke/VarHandle" ∧ (parseMethodDescriptor yX4_ratio.desc).map (fun d => d.parameters.length) = some 1 := by decide +kernel
set_option maxHeartbeats 4000000 in
set_option maxRecDepth 100000 in
theorem met_X4_ratio {l : Launch} {D : va_G} {b0 n : Nat} {h0 : GH} {g : Nat → Nat} {s w a t b : Nat → Int32} {ty : Int32} {c : Nat} {r : Nat} {q : Nat} {x : Int32} (G : gM b0 g) (I : MI s c r) (V : MV s) (hq : q ≤ 4) (F : MF s) : gMet l yX4_ratio cX4_ratio 2 ((some .int)) 4 84 0 0 D b0 (mh h0 D g s w a t b (nI q) ty) n [.ref (g 0), .int x] (pI (fun r' h' n' => ∃ a' b', rd_ratio s c r x = r' ∧ mh h0 D g s w a' t b' (nI q) ty = h' ∧ n = n')) := by
  refine gMet.of (lv := [(0, _), (1, _)]) (by decide) (Nat.le_of_ble_eq_true rfl) rfl ?_
  intro p_ e_ U0 m_ args_ below_ meth_ co_ C hr hlk hnm
  have hI := m_ed_le I
  obtain ⟨I0, I1, I2, I3, I4, I5⟩ := id I
  refine g_aload_n C dX4_ratio_0 rfl 0 rfl ?_
  refine g_iload_n C dX4_ratio_1 rfl 1 rfl ?_
  refine g_V1I C (met_X4_isEdge G I) (cwV 1 C.2.2.2.2.1 (lw_V q1371 q1373 qs54 q79 q1374) rfl rfl rfl ok_X4_isEdge ⟨(Nat.le_of_ble_eq_true rfl), (Nat.le_of_ble_eq_true rfl)⟩) (mh_0 G) rfl (Nat.le_of_ble_eq_true rfl) dX4_ratio_2 ⟨(Nat.le_of_ble_eq_true rfl), (Nat.le_of_ble_eq_true rfl)⟩ (fun r_2 h_2 n_2 hp_2 hn_2 => ?_)
  obtain ⟨rfl, rfl, rfl⟩ := hp_2
  refine g_if_eqB (tgt := 19) C dX4_ratio_5 (by decide) (fun c_5 => ?_) (fun c_5 => ?_)
  · refine g_iconst C dX4_ratio_19 kc_m1 ?_
    exact g_iret C hr hlk dX4_ratio_20 (Nat.le_of_ble_eq_true rfl) (Nat.le_of_ble_eq_true rfl) rfl ⟨_, rfl, ⟨_, _, by unfold rd_ratio; rw [c_5]; rfl, rfl, rfl⟩⟩
  · obtain ⟨e, he, rfl⟩ := isIn_ex c_5
    refine g_aload_n C dX4_ratio_8 rfl 0 rfl ?_
    refine g_iload_n C dX4_ratio_9 rfl 1 rfl ?_
    refine g_V1F C (met_X4_ratioOf G I F (by first | assumption | omega)) (cwV 1 C.2.2.2.2.1 (lw_V q1345 q1347 qs50 q79 q1348) rfl rfl rfl ok_X4_ratioOf ⟨(Nat.le_of_ble_eq_true rfl), (Nat.le_of_ble_eq_true rfl)⟩) (mh_0 G) rfl (Nat.le_of_ble_eq_true rfl) dX4_ratio_10 ⟨(Nat.le_of_ble_eq_true rfl), (Nat.le_of_ble_eq_true rfl)⟩ (fun r_10 h_10 n_10 hp_10 hn_10 => ?_)
    obtain ⟨rfl, rfl, rfl⟩ := hp_10
    refine g_S1I C (met_J15_floatToIntBits) (va_cwS 1 C.2.2.2.2.1 (lw_S q1411 q776 q86 q777) rfl rfl rfl ok_J15_floatToIntBits ⟨(Nat.le_of_ble_eq_true rfl), (Nat.le_of_ble_eq_true rfl)⟩) (Nat.le_of_ble_eq_true rfl) dX4_ratio_13 ⟨(Nat.le_of_ble_eq_true rfl), (Nat.le_of_ble_eq_true rfl)⟩ (fun r_13 h_13 n_13 hp_13 hn_13 => ?_)
    obtain ⟨rfl, rfl, rfl⟩ := hp_13
    refine g_goto (tgt := 20) C dX4_ratio_16 (by decide) ?_
    exact g_iret C hr hlk dX4_ratio_20 (Nat.le_of_ble_eq_true rfl) (Nat.le_of_ble_eq_true rfl) rfl ⟨_, rfl, ⟨_, _, by unfold rd_ratio; rw [c_5, tn_nI (k := e) (by omega)]; rfl, rfl, rfl⟩⟩
theorem ok_X4_init : yX4_init.cls ≠ "java/lang/invoke/MethodHandle" ∧ yX4_init.cls ≠ "java/lang/invoke/VarHandle" ∧ (parseMethodDescriptor yX4_init.desc).map (fun d => d.parameters.length) = some 0 := by decide +kernel
set_option maxHeartbeats 4000000 in
set_option maxRecDepth 100000 in
theorem met_X4_init {l : Launch} {D : va_G} {b0 n : Nat} {h : GH} {a : Nat} (hA : h a = gO 4 [.null, .null, .null, .int 0, .null, .int 0, .null]) (ha : b0 ≤ a) : gMet l yX4_init cX4_init 1 (none) 1 24 5 11968 D b0 h n [.ref a] (pV (fun h' n' => ∃ hk, mh hk D (gNew a n) (m_beg m_s0 3 2) (fun _ => 0) (fun _ => 0) (fun _ => 0) (fun _ => 0) (nI 0) (nI 0) = h' ∧ n + 5 = n' ∧ gM b0 (gNew a n) ∧ ∀ q, q < n → q ≠ a → hk q = h q)) := by
  refine gMet.of (lv := [(0, _)]) (by decide) (Nat.le_of_ble_eq_true rfl) rfl ?_
  intro p_ e_ U0 m_ args_ below_ meth_ co_ C hr hlk hnm
  refine g_lt hA (fun hla => ?_)
  refine g_size C (fun hb0 => ?_)
  refine g_aload_n C dX4_init_0 rfl 0 rfl ?_
  refine g_objInit C q1155 dX4_init_1 (Nat.le_of_ble_eq_true rfl) (Nat.le_of_ble_eq_true rfl) ?_
  refine g_aload_n C dX4_init_4 rfl 0 rfl ?_
  refine g_sipush C dX4_init_5 ks_1972 ?_
  refine g_newi C (by omega) (Nat.le_of_ble_eq_true rfl) (Nat.le_of_ble_eq_true rfl) dX4_init_8 ?_
  refine g_opq (fun h8 e8 o8 => ?_)
  refine g_putF C in_X4 tyX4 tyX4_ok nmX4 ((o8 _ (by first | assumption | omega)).trans hA) ha rfl 0 (by decide) q1160 (fun _ hx => hx) rfl hnm rfl rfl rfl rfl (Nat.le_of_ble_eq_true rfl) rfl dX4_init_10 ?_
  refine g_opq (fun h10 e10 o10 => ?_)
  refine g_aload_n C dX4_init_13 rfl 0 rfl ?_
  refine g_sipush C dX4_init_14 ks_7888 ?_
  refine g_newi C (by omega) (Nat.le_of_ble_eq_true rfl) (Nat.le_of_ble_eq_true rfl) dX4_init_17 ?_
  refine g_opq (fun h17 e17 o17 => ?_)
  refine g_putF C in_X4 tyX4 tyX4_ok nmX4 ((o17 _ (by first | assumption | omega)).trans e10) ha rfl 1 (by decide) q1161 (fun _ hx => hx) rfl hnm rfl rfl rfl rfl (Nat.le_of_ble_eq_true rfl) rfl dX4_init_19 ?_
  refine g_opq (fun h19 e19 o19 => ?_)
  refine g_aload_n C dX4_init_22 rfl 0 rfl ?_
  refine g_sipush C dX4_init_23 ks_1972 ?_
  refine g_newi C (by omega) (Nat.le_of_ble_eq_true rfl) (Nat.le_of_ble_eq_true rfl) dX4_init_26 ?_
  refine g_opq (fun h26 e26 o26 => ?_)
  refine g_putF C in_X4 tyX4 tyX4_ok nmX4 ((o26 _ (by first | assumption | omega)).trans e19) ha rfl 2 (by decide) q1162 (fun _ hx => hx) rfl hnm rfl rfl rfl rfl (Nat.le_of_ble_eq_true rfl) rfl dX4_init_28 ?_
  refine g_opq (fun h28 e28 o28 => ?_)
  refine g_aload_n C dX4_init_31 rfl 0 rfl ?_
  refine g_bipush C dX4_init_32 kb_100 ?_
  refine g_newi C (by omega) (Nat.le_of_ble_eq_true rfl) (Nat.le_of_ble_eq_true rfl) dX4_init_34 ?_
  refine g_opq (fun h34 e34 o34 => ?_)
  refine g_putF C in_X4 tyX4 tyX4_ok nmX4 ((o34 _ (by first | assumption | omega)).trans e28) ha rfl 4 (by decide) q1164 (fun _ hx => hx) rfl hnm rfl rfl rfl rfl (Nat.le_of_ble_eq_true rfl) rfl dX4_init_36 ?_
  refine g_opq (fun h36 e36 o36 => ?_)
  refine g_aload_n C dX4_init_39 rfl 0 rfl ?_
  refine g_bipush C dX4_init_40 kb_36 ?_
  refine g_newi C (by omega) (Nat.le_of_ble_eq_true rfl) (Nat.le_of_ble_eq_true rfl) dX4_init_42 ?_
  refine g_opq (fun h42 e42 o42 => ?_)
  refine g_putF C in_X4 tyX4 tyX4_ok nmX4 ((o42 _ (by first | assumption | omega)).trans e36) ha rfl 6 (by decide) q1166 (fun _ hx => hx) rfl hnm rfl rfl rfl rfl (Nat.le_of_ble_eq_true rfl) rfl dX4_init_44 ?_
  refine g_opq (fun h44 e44 o44 => ?_)
  refine g_aload_n C dX4_init_47 rfl 0 rfl ?_
  have hM := gNew_M ha hla
  have x8 : h44 n = gI D 1972 (fun _ => 0) := ((o44 _ (by omega)).trans ((o42 _ (by omega)).trans ((o36 _ (by omega)).trans ((o34 _ (by omega)).trans ((o28 _ (by omega)).trans ((o26 _ (by omega)).trans ((o19 _ (by omega)).trans ((o17 _ (by omega)).trans ((o10 _ (by omega)).trans e8)))))))))
  have x17 : h44 (n + 1) = gI D 7888 (fun _ => 0) := ((o44 _ (by omega)).trans ((o42 _ (by omega)).trans ((o36 _ (by omega)).trans ((o34 _ (by omega)).trans ((o28 _ (by omega)).trans ((o26 _ (by omega)).trans ((o19 _ (by omega)).trans e17)))))))
  have x26 : h44 (n + 1 + 1) = gI D 1972 (fun _ => 0) := ((o44 _ (by omega)).trans ((o42 _ (by omega)).trans ((o36 _ (by omega)).trans ((o34 _ (by omega)).trans ((o28 _ (by omega)).trans e26)))))
  have x34 : h44 (n + 1 + 1 + 1) = gI D 100 (fun _ => 0) := ((o44 _ (by omega)).trans ((o42 _ (by omega)).trans ((o36 _ (by omega)).trans e34)))
  have x42 : h44 (n + 1 + 1 + 1 + 1) = gI D 36 (fun _ => 0) := ((o44 _ (by omega)).trans e42)
  have hk : h44 = mh h44 D (gNew a n) (fun _ => 0) (fun _ => 0) (fun _ => 0) (fun _ => 0) (fun _ => 0) (nI 0) (nI 0) := mh_is e44 x8 x17 x26 x34 x42
  refine g_heap hk ?_
  have hfr : ∀ q, q < n → q ≠ a → h44 q = h q := fun q q1 q2 => (o44 q q2).trans ((o42 q (by omega)).trans ((o36 q q2).trans ((o34 q (by omega)).trans ((o28 q q2).trans ((o26 q (by omega)).trans ((o19 q q2).trans ((o17 q (by omega)).trans ((o10 q q2).trans (o8 q (by omega))))))))))
  refine g_get C in_X4 (mh_0 hM) rfl 0 (by decide) q1160 (fun _ hx => hx) rfl dX4_init_48 ?_
  refine g_iconst C dX4_init_51 kc_2 ?_
  refine g_iconst C dX4_init_52 kc_1 ?_
  refine g_iastN C (mh_1 hM) hM.ge1 (by omega) (by omega) (mh_u1 hM) dX4_init_53 ?_
  refine g_aload_n C dX4_init_54 rfl 0 rfl ?_
  refine g_get C in_X4 (mh_0 hM) rfl 0 (by decide) q1160 (fun _ hx => hx) rfl dX4_init_55 ?_
  refine g_iconst C dX4_init_58 kc_3 ?_
  refine g_bipush C dX4_init_59 kb_20 ?_
  refine g_iastN C (mh_1 hM) hM.ge1 (by omega) (by omega) (mh_u1 hM) dX4_init_61 ?_
  refine g_aload_n C dX4_init_62 rfl 0 rfl ?_
  refine g_iconst C dX4_init_63 kc_3 ?_
  refine g_iconst C dX4_init_64 kc_2 ?_
  refine g_V2V C (met_X4_begins hM ⟨by omega, by omega⟩ ⟨by omega, by omega⟩) (cwV 2 C.2.2.2.2.1 (lw_V q1156 q1158 qs18 q79 q1159) rfl rfl rfl ok_X4_begins ⟨(Nat.le_of_ble_eq_true rfl), (Nat.le_of_ble_eq_true rfl)⟩) (mh_0 hM) rfl (Nat.le_of_ble_eq_true rfl) dX4_init_65 ⟨(Nat.le_of_ble_eq_true rfl), (Nat.le_of_ble_eq_true rfl)⟩ (fun h_65 n_65 hp_65 hn_65 => ?_)
  obtain ⟨rfl, rfl⟩ := hp_65
  exact g_vret C hr hlk dX4_init_68 (Nat.le_of_ble_eq_true rfl) (Nat.le_of_ble_eq_true rfl) ⟨rfl, ⟨h44, rfl, rfl, hM, hfr⟩⟩
