/-- a new library, behind its making (columns and rows as they were) -/
def LiN (D : va_G) (h : GH) (n a : Nat) (v0 v1 : Value) (h' : GH) : Prop :=
  h' a = gO 1 [v0, v1, .ref n, .ref (n + 1), .ref (n + 2)] ∧ h' n = gO 7 [.int (nI 0), .ref (D.1 201), .int (nI 0)] ∧ h' (n + 1) = gO 7 [.int (nI 0), .ref (D.1 201), .int (nI 0)] ∧ (∃ f, h' (n + 2) = gI D 2 f ∧ f 0 = nI 1 ∧ f 1 = nI 20) ∧ ∀ q, q < n → q ≠ a → h' q = h q
/-- where its cells lie -/
def aLb (D : va_G) (a n : Nat) : Nat → Nat := fun i => if i = 0 then a else if i ≤ 3 then n + (i - 1) else D.1 201
theorem ok_X1_init : yX1_init.cls ≠ "java/lang/invoke/MethodHandle" ∧ yX1_init.cls ≠ "java/lang/invoke/VarHandle" ∧ (parseMethodDescriptor yX1_init.desc).map (fun d => d.parameters.length) = some 0 := by decide +kernel
set_option maxHeartbeats 4000000 in
set_option maxRecDepth 100000 in
theorem met_X1_init {l : Launch} {D : va_G} {b0 n : Nat} {h : GH} {a : Nat} {v0 v1 : Value} (hO : h a = gO 1 [v0, v1, .null, .null, .null]) (ha : b0 ≤ a) : gMet l yX1_init cX1_init 1 (none) 4 80 3 8 D b0 h n [.ref a] (pV (fun h' n' => LiN D h n a v0 v1 h' ∧ n + 3 = n')) := by
  refine gMet.of (lv := [(0, _)]) (by decide) (Nat.le_of_ble_eq_true rfl) rfl ?_
  intro p_ e_ U0 m_ args_ below_ meth_ co_ C hr hlk hnm
  refine g_lt hO (fun hla => ?_)
  refine g_size C (fun hb0 => ?_)
  have hb1 : b0 ≤ n + 1 := by omega
  refine g_aload_n C dX1_init_0 rfl 0 rfl ?_
  refine g_objInit C q109 dX1_init_1 (Nat.le_of_ble_eq_true rfl) (Nat.le_of_ble_eq_true rfl) ?_
  refine g_aload_n C dX1_init_4 rfl 0 rfl ?_
  refine g_new (ci := 7) (fs := [.int 0, .null, .int 0]) C in_J2 tyJ2 tyJ2_ok q110 q111 q67 rfl born_J2 (Nat.le_of_ble_eq_true rfl) (Nat.le_of_ble_eq_true rfl) dX1_init_5 ?_
  refine g_opq (fun h5 e5 o5 => ?_)
  refine g_dup C dX1_init_8 rfl ?_
  refine g_I0V C (met_J2_init e5 hb0) (cwI 0 C.2.2.2.2.1 (lw_meth q114) rfl rfl rfl (C.2.2.2.2.1 _ q67) (C.2.2.2.2.1 _ q112) (C.2.2.2.2.1 _ q113) rfl ok_J2_init ⟨(Nat.le_of_ble_eq_true rfl), (Nat.le_of_ble_eq_true rfl)⟩) (Nat.le_of_ble_eq_true rfl) dX1_init_9 ⟨(Nat.le_of_ble_eq_true rfl), (Nat.le_of_ble_eq_true rfl)⟩ (fun h_9 n_9 hp_9 hn_9 => ?_)
  obtain ⟨rfl, rfl⟩ := hp_9
  refine g_opq (fun h9 e9 o9 => ?_)
  refine g_putF C in_X1 tyX1 tyX1_ok nmX1 ((o9 _ (by omega)).trans ((o5 _ (by omega)).trans hO)) ha rfl 2 (by decide) q143 (fun _ hx => hx) rfl hnm rfl rfl rfl rfl (Nat.le_of_ble_eq_true rfl) rfl dX1_init_12 ?_
  refine g_opq (fun h12 e12 o12 => ?_)
  refine g_aload_n C dX1_init_15 rfl 0 rfl ?_
  refine g_new (ci := 7) (fs := [.int 0, .null, .int 0]) C in_J2 tyJ2 tyJ2_ok q110 q111 q67 rfl born_J2 (Nat.le_of_ble_eq_true rfl) (Nat.le_of_ble_eq_true rfl) dX1_init_16 ?_
  refine g_opq (fun h16 e16 o16 => ?_)
  refine g_dup C dX1_init_19 rfl ?_
  refine g_I0V C (met_J2_init e16 hb1) (cwI 0 C.2.2.2.2.1 (lw_meth q114) rfl rfl rfl (C.2.2.2.2.1 _ q67) (C.2.2.2.2.1 _ q112) (C.2.2.2.2.1 _ q113) rfl ok_J2_init ⟨(Nat.le_of_ble_eq_true rfl), (Nat.le_of_ble_eq_true rfl)⟩) (Nat.le_of_ble_eq_true rfl) dX1_init_20 ⟨(Nat.le_of_ble_eq_true rfl), (Nat.le_of_ble_eq_true rfl)⟩ (fun h_20 n_20 hp_20 hn_20 => ?_)
  obtain ⟨rfl, rfl⟩ := hp_20
  refine g_opq (fun h20 e20 o20 => ?_)
  refine g_putF C in_X1 tyX1 tyX1_ok nmX1 ((o20 _ (by omega)).trans ((o16 _ (by omega)).trans e12)) ha rfl 3 (by decide) q145 (fun _ hx => hx) rfl hnm rfl rfl rfl rfl (Nat.le_of_ble_eq_true rfl) rfl dX1_init_23 ?_
  refine g_opq (fun h23 e23 o23 => ?_)
  refine g_aload_n C dX1_init_26 rfl 0 rfl ?_
  refine g_iconst C dX1_init_27 kc_2 ?_
  refine g_newi C (by omega) (Nat.le_of_ble_eq_true rfl) (Nat.le_of_ble_eq_true rfl) dX1_init_28 ?_
  refine g_opq (fun h28 e28 o28 => ?_)
  refine g_dup C dX1_init_30 rfl ?_
  refine g_iconst C dX1_init_31 kc_0 ?_
  refine g_iconst C dX1_init_32 kc_1 ?_
  refine g_iastN C e28 (by omega) (by omega) (by omega) rfl dX1_init_33 ?_
  refine g_opq (fun h33 e33 o33 => ?_)
  refine g_dup C dX1_init_34 rfl ?_
  refine g_iconst C dX1_init_35 kc_1 ?_
  refine g_bipush C dX1_init_36 kb_20 ?_
  refine g_iastN C e33 (by omega) (by omega) (by omega) rfl dX1_init_38 ?_
  refine g_opq (fun h38 e38 o38 => ?_)
  refine g_put C in_X1 tyX1 tyX1_ok nmX1 ((o38 _ (by first | assumption | omega)).trans ((o33 _ (by first | assumption | omega)).trans ((o28 _ (by first | assumption | omega)).trans e23))) ha rfl 4 (by decide) q147 (fun _ hx => hx) rfl rfl rfl rfl (Nat.le_of_ble_eq_true rfl) rfl dX1_init_39 ?_
  refine g_opq (fun h39 e39 o39 => ?_)
  exact g_vret C hr hlk dX1_init_42 (Nat.le_of_ble_eq_true rfl) (Nat.le_of_ble_eq_true rfl) ⟨rfl, ⟨e39, ((o39 _ (by omega)).trans ((o38 _ (by omega)).trans ((o33 _ (by omega)).trans ((o28 _ (by omega)).trans ((o23 _ (by omega)).trans ((o20 _ (by omega)).trans ((o16 _ (by omega)).trans ((o12 _ (by omega)).trans e9)))))))), ((o39 _ (by omega)).trans ((o38 _ (by omega)).trans ((o33 _ (by omega)).trans ((o28 _ (by omega)).trans ((o23 _ (by omega)).trans e20))))), ⟨_, ((o39 _ (by omega)).trans e38), by simp [upd], by simp [upd]⟩, fun q q1 q2 => ((o39 q (by omega)).trans ((o38 q (by omega)).trans ((o33 q (by omega)).trans ((o28 q (by omega)).trans ((o23 q (by omega)).trans ((o20 q (by omega)).trans ((o16 q (by omega)).trans ((o12 q (by omega)).trans ((o9 q (by omega)).trans ((o5 q (by omega)).trans rfl))))))))))⟩, rfl⟩
