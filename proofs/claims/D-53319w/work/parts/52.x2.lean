theorem ok_X2_init : yX2_init.cls ≠ "java/lang/invoke/MethodHandle" ∧ yX2_init.cls ≠ "java/lang/invoke/VarHandle" ∧ (parseMethodDescriptor yX2_init.desc).map (fun d => d.parameters.length) = some 0 := by decide +kernel
set_option maxHeartbeats 4000000 in
set_option maxRecDepth 100000 in
theorem met_X2_init {l : Launch} {D : va_G} {b0 n : Nat} {h : GH} {a : Nat} (hO : h a = gO 2 [.null, .null, .int 0, .int 0, .float 0, .int 0]) (ha : b0 ≤ a) : gMet l yX2_init cX2_init 3 (none) 1 20 6 54 D b0 h n [.ref a] (pV (fun h' n' => SiP D h n a h' ∧ n + 6 = n')) := by
  refine gMet.of (lv := [(0, _)]) (by decide) (Nat.le_of_ble_eq_true rfl) rfl ?_
  intro p_ e_ U0 m_ args_ below_ meth_ co_ C hr hlk hnm
  refine g_lt hO (fun hla => ?_)
  refine g_size C (fun hb0 => ?_)
  have hb1 : b0 ≤ n + 1 := by omega
  refine g_aload_n C dX2_init_0 rfl 0 rfl ?_
  refine g_objInit C q224 dX2_init_1 (Nat.le_of_ble_eq_true rfl) (Nat.le_of_ble_eq_true rfl) ?_
  refine g_aload_n C dX2_init_4 rfl 0 rfl ?_
  refine g_iconst C dX2_init_5 kc_4 ?_
  refine g_newA C q225 (by omega) (by show _ ≤ 6; omega) (by show _ ≤ 54; omega) dX2_init_6 ?_
  refine g_opq (fun h6 e6 o6 => ?_)
  refine g_putF C in_X2 tyX2 tyX2_ok nmX2 ((o6 _ (by first | assumption | omega)).trans hO) ha rfl 0 (by decide) q227 (fun _ hx => hx) rfl hnm rfl rfl rfl rfl (Nat.le_of_ble_eq_true rfl) rfl dX2_init_9 ?_
  refine g_opq (fun h9 e9 o9 => ?_)
  refine g_aload_n C dX2_init_12 rfl 0 rfl ?_
  refine g_bipush C dX2_init_13 kb_10 ?_
  refine g_newi C (by omega) (by show _ ≤ 6; omega) (by show _ ≤ 54; omega) dX2_init_15 ?_
  refine g_opq (fun h15 e15 o15 => ?_)
  refine g_put C in_X2 tyX2 tyX2_ok nmX2 ((o15 _ (by first | assumption | omega)).trans e9) ha rfl 1 (by decide) q231 (fun _ hx => hx) rfl rfl rfl rfl (Nat.le_of_ble_eq_true rfl) rfl dX2_init_17 ?_
  refine g_opq (fun h17 e17 o17 => ?_)
  refine g_aload_n C dX2_init_20 rfl 0 rfl ?_
  refine g_iconst C dX2_init_21 kc_m1 ?_
  refine g_put C in_X2 tyX2 tyX2_ok nmX2 e17 ha rfl 3 (by decide) q236 (fun _ hx => hx) rfl rfl rfl rfl (Nat.le_of_ble_eq_true rfl) rfl dX2_init_22 ?_
  refine g_opq (fun h22 e22 o22 => ?_)
  refine g_aload_n C dX2_init_25 rfl 0 rfl ?_
  refine g_fconst1 C dX2_init_26 ?_
  refine g_put C in_X2 tyX2 tyX2_ok nmX2 e22 ha rfl 4 (by decide) q238 (fun _ hx => hx) rfl rfl rfl rfl (Nat.le_of_ble_eq_true rfl) rfl dX2_init_27 ?_
  refine g_opq (fun h27 e27 o27 => ?_)
  refine g_aload_n C dX2_init_30 rfl 0 rfl ?_
  refine g_sipush C dX2_init_31 ks_1000 ?_
  refine g_put C in_X2 tyX2 tyX2_ok nmX2 e27 ha rfl 5 (by decide) q241 (fun _ hx => hx) rfl rfl rfl rfl (Nat.le_of_ble_eq_true rfl) rfl dX2_init_34 ?_
  refine g_opq (fun h34 e34 o34 => ?_)
  have xP : h34 n = gP D 103 4 (fun _ => none) := ((o34 _ (by omega)).trans ((o27 _ (by omega)).trans ((o22 _ (by omega)).trans ((o17 _ (by omega)).trans ((o15 _ (by omega)).trans ((o9 _ (by omega)).trans e6))))))
  have xL : h34 (n + 1) = gI D 10 (fun _ => 0) := ((o34 _ (by omega)).trans ((o27 _ (by omega)).trans ((o22 _ (by omega)).trans ((o17 _ (by omega)).trans e15))))
  have H0 : SiL D h n a 0 0 h34 := ⟨e34, ⟨_, xP, fun d hd => absurd hd (by omega)⟩, xL, fun d hd => absurd hd (by omega), fun q q1 q2 => ((o34 q (by omega)).trans ((o27 q (by omega)).trans ((o22 q (by omega)).trans ((o17 q (by omega)).trans ((o15 q (by omega)).trans ((o9 q (by omega)).trans ((o6 q (by omega)).trans rfl)))))))⟩
  refine g_iconst C dX2_init_37 kc_0 ?_
  refine g_istore_n (lv' := [(1, _), (0, _)]) C dX2_init_38 rfl (by decide) rfl ?_
  have loop : ∀ (N_ i : Nat) (h1 : GH), i ≤ 4 → 4 < i + N_ → SiL D h n a i i h1 → gW p_ l e_ (headSpec (ws_ yX2_init cX2_init 3 (none)) (gRm 1 20 6 54)).room U0 m_ args_ below_ meth_ co_ (MQ below_ (gQc D b0 (pV (fun h' n' => SiP D h n a h' ∧ n + 6 = n'))) args_ U0 6 54 (gA b0)) D b0 3 h1 (n + 2 + i) (2 + i) (14 + 10 * i) 39 [(0, .ref a), (1, .int (nI i))] [] := by
    intro N_
    induction N_ with
    | zero => intro i h1 h1_ h2_; exact absurd h2_ (by omega)
    | succ N_ ih =>
      intro i h1 h1_ h2_ H
      obtain ⟨s1, ⟨F, s2, s3⟩, s4, s5, s6⟩ := id H
      refine g_iload_n C dX2_init_39 rfl 1 rfl ?_
      refine g_iconst C dX2_init_40 kc_4 ?_
      refine g_icmp_geN (tgt := 83) C dX2_init_41 (by decide) (by omega) (by omega) (fun c_41 => ?_) (fun c_41 => ?_)
      · refine g_iconst C dX2_init_83 kc_0 ?_
        refine g_istore_n (lv' := [(1, _), (0, _)]) C dX2_init_84 rfl (by decide) rfl ?_
        have loop3 : ∀ (N3 x : Nat) (h3 : GH), x ≤ 10 → 10 < x + N3 → SiQ D h n a x h3 → gW p_ l e_ (headSpec (ws_ yX2_init cX2_init 3 (none)) (gRm 1 20 6 54)).room U0 m_ args_ below_ meth_ co_ (MQ below_ (gQc D b0 (pV (fun h' n' => SiP D h n a h' ∧ n + 6 = n'))) args_ U0 6 54 (gA b0)) D b0 3 h3 (n + 6) 6 54 85 [(0, .ref a), (1, .int (nI x))] [] := by
          intro N3
          induction N3 with
          | zero => intro x h3 h5_ h6_; exact absurd h6_ (by omega)
          | succ N3 ih3 =>
            intro x h3 h5_ h6_ H3
            obtain ⟨q1, q2, ⟨f3, q3, q4⟩, q5, q6⟩ := id H3
            refine g_iload_n C dX2_init_85 rfl 1 rfl ?_
            refine g_bipush C dX2_init_86 kb_10 ?_
            refine g_icmp_geN (tgt := 104) C dX2_init_88 (by decide) (by omega) (by omega) (fun c_88 => ?_) (fun c_88 => ?_)
            · exact g_vret C hr hlk dX2_init_104 (by omega) (by omega) ⟨rfl, H3.p (by omega), rfl⟩
            · refine g_aload_n C dX2_init_91 rfl 0 rfl ?_
              refine g_get C in_X2 q1 rfl 1 (by decide) q231 (fun _ hx => hx) rfl dX2_init_92 ?_
              refine g_iload_n C dX2_init_95 rfl 1 rfl ?_
              refine g_iload_n C dX2_init_96 rfl 1 rfl ?_
              refine g_iastN C q3 hb1 (by omega) (by omega) rfl dX2_init_97 ?_
              refine g_opq (fun h97 e97 o97 => ?_)
              refine g_iinc (lv' := [(1, _), (0, _)]) (t := 1) C dX2_init_98 rfl (nI_1 _) (by decide) rfl ?_
              refine g_goto (tgt := 85) C dX2_init_101 (by decide) ?_
              refine g_pick (lv' := [(0, _), (1, _)]) [1, 0] rfl ?_
              exact ih3 (x + 1) h97 (by omega) (by omega) (H3.put hla q4 e97 o97)
        refine g_pick (lv' := [(0, _), (1, _)]) [1, 0] rfl ?_
        obtain rfl : i = 4 := by omega
        refine g_widen (k1 := 6) (k2 := 54) (by omega) (by omega) ?_
        exact loop3 11 0 h1 (by omega) (by omega) (H.q rfl)
      · refine g_aload_n C dX2_init_44 rfl 0 rfl ?_
        refine g_get C in_X2 s1 rfl 0 (by decide) q227 (fun _ hx => hx) rfl dX2_init_45 ?_
        refine g_iload_n C dX2_init_48 rfl 1 rfl ?_
        refine g_bipush C dX2_init_49 kb_10 ?_
        refine g_newi C (by omega) (by show _ ≤ 6; omega) (by show _ ≤ 54; omega) dX2_init_51 ?_
        refine g_opq (fun h51 e51 o51 => ?_)
        refine g_aastI C ((o51 _ (by first | assumption | omega)).trans s2) hb0 e51 (by omega) (by omega) rfl dX2_init_53 ?_
        refine g_opq (fun h53 e53 o53 => ?_)
        refine g_iconst C dX2_init_54 kc_0 ?_
        refine g_istore_n (lv' := [(2, _), (0, _), (1, _)]) C dX2_init_55 rfl (by decide) rfl ?_
        have loop2 : ∀ (N2 j : Nat) (h2 : GH), j ≤ 10 → 10 < j + N2 → SiL D h n a i (i + 1) h2 → (∃ f, h2 (n + 2 + i) = gI D 10 f ∧ ∀ x, x < j → f x = -1) → gW p_ l e_ (headSpec (ws_ yX2_init cX2_init 3 (none)) (gRm 1 20 6 54)).room U0 m_ args_ below_ meth_ co_ (MQ below_ (gQc D b0 (pV (fun h' n' => SiP D h n a h' ∧ n + 6 = n'))) args_ U0 6 54 (gA b0)) D b0 3 h2 (n + 2 + i + 1) (2 + i + 1) (14 + 10 * i + 10) 56 [(0, .ref a), (1, .int (nI i)), (2, .int (nI j))] [] := by
          intro N2
          induction N2 with
          | zero => intro j h2 h3_ h4_; exact absurd h4_ (by omega)
          | succ N2 ih2 =>
            intro j h2 h3_ h4_ H2 R2
            obtain ⟨t1, ⟨F2, t2, t3⟩, t4, t5, t6⟩ := id H2
            obtain ⟨f, r1, r2⟩ := R2
            refine g_iload_n C dX2_init_56 rfl 2 rfl ?_
            refine g_bipush C dX2_init_57 kb_10 ?_
            refine g_icmp_geN (tgt := 77) C dX2_init_59 (by decide) (by omega) (by omega) (fun c_59 => ?_) (fun c_59 => ?_)
            · refine g_iinc (lv' := [(1, _), (0, _), (2, _)]) (t := 1) C dX2_init_77 rfl (nI_1 _) (by decide) rfl ?_
              refine g_goto (tgt := 39) C dX2_init_80 (by decide) ?_
              refine g_pick (lv' := [(0, _), (1, _)]) [1, 0] rfl ?_
              refine g_widen (k1 := 2 + (i + 1)) (k2 := 14 + 10 * (i + 1)) (by omega) (by omega) ?_
              exact ih (i + 1) h2 (by omega) (by omega) (H2.next r1 r2 (by omega))
            · refine g_aload_n C dX2_init_62 rfl 0 rfl ?_
              refine g_get C in_X2 t1 rfl 0 (by decide) q227 (fun _ hx => hx) rfl dX2_init_63 ?_
              refine g_iload_n C dX2_init_66 rfl 1 rfl ?_
              refine g_aald (t0 := 3) (v := .ref (n + 2 + i)) C t2 rfl rfl (by omega) (by omega) (by rw [t3 i (by omega)]; rfl) dX2_init_67 ?_
              refine g_iload_n C dX2_init_68 rfl 2 rfl ?_
              refine g_iconst C dX2_init_69 kc_m1 ?_
              refine g_iastN C r1 (by omega) (by omega) (by omega) rfl dX2_init_70 ?_
              refine g_opq (fun h70 e70 o70 => ?_)
              refine g_iinc (lv' := [(2, _), (0, _), (1, _)]) (t := 2) C dX2_init_71 rfl (nI_1 _) (by decide) rfl ?_
              refine g_goto (tgt := 56) C dX2_init_74 (by decide) ?_
              refine g_pick (lv' := [(0, _), (1, _), (2, _)]) [1, 2, 0] rfl ?_
              exact ih2 (j + 1) h70 (by omega) (by omega) (H2.put hla (Nat.le_refl _) o70) ⟨_, e70, fun x hx => by unfold upd; split; rfl; exact r2 x (by omega)⟩
        refine g_pick (lv' := [(0, _), (1, _), (2, _)]) [1, 2, 0] rfl ?_
        exact loop2 11 0 h53 (by omega) (by omega) (H.lay hla s3 o51 e53 o53) ⟨_, (o53 _ (by omega)).trans e51, fun x hx => absurd hx (by omega)⟩
  refine g_pick (lv' := [(0, _), (1, _)]) [1, 0] rfl ?_
  refine g_widen (k1 := 2 + 0) (k2 := 14 + 10 * 0) (by omega) (by omega) ?_
  exact loop 5 0 h34 (by omega) (by omega) H0
theorem ok_X2_copy : yX2_copy.cls = "MapSheets$Sheet" ∧ yX2_copy.cls ≠ "java/lang/invoke/MethodHandle" ∧ yX2_copy.cls ≠ "java/lang/invoke/VarHandle" ∧ (parseMethodDescriptor yX2_copy.desc).map (fun d => d.parameters.length) = some 0 := by decide +kernel
set_option maxHeartbeats 4000000 in
set_option maxRecDepth 100000 in
theorem met_X2_copy {l : Launch} {D : va_G} {b0 n : Nat} {h : GH} {A : Nat → Nat} {s : Nat → Int32} {k : Nat} (S : ShAt D b0 h A (us s k)) (hz : s (ix k 52) = nI (sv s (ix k 52)) ∧ 1 ≤ sv s (ix k 52) ∧ sv s (ix k 52) ≤ 1000000) : gMet l yX2_copy cX2_copy 3 ((some (.object "MapSheets$Sheet"))) 2 60 12 110 D b0 h n [.ref (A 0)] (pR (fun r' h' n' => n = r' ∧ ShAt D b0 h' (aCp n) (us s k) ∧ (∀ q, q < n → h' q = h q) ∧ n + 12 = n')) := by
  refine gMet.of (lv := [(0, _)]) (by decide) (Nat.le_of_ble_eq_true rfl) rfl ?_
  intro p_ e_ U0 m_ args_ below_ meth_ co_ C hr hlk hnm
  refine g_none (fun hno => ?_)
  have hlt := S.lt hno
  refine g_size C (fun hb0 => ?_)
  have hb1 : b0 ≤ n + 1 := by omega
  refine g_new (ci := 2) (fs := [.null, .null, .int 0, .int 0, .float 0, .int 0]) C in_X2 tyX2 tyX2_ok q477 q220 q73 rfl born_X2 (by show _ ≤ 12; omega) (by show _ ≤ 110; omega) dX2_copy_0 ?_
  refine g_opq (fun h0 e0 o0 => ?_)
  refine g_dup C dX2_copy_3 rfl ?_
  refine g_I0V C (met_X2_init e0 hb0) (cwI 0 C.2.2.2.2.1 (lw_meth q223) rfl rfl rfl (C.2.2.2.2.1 _ q73) (C.2.2.2.2.1 _ q478) (C.2.2.2.2.1 _ q222) rfl ok_X2_init ⟨(Nat.le_of_ble_eq_true rfl), (Nat.le_of_ble_eq_true rfl)⟩) (Nat.le_of_ble_eq_true rfl) dX2_copy_4 ⟨(by show _ ≤ 12; omega), (by show _ ≤ 110; omega)⟩ (fun h_4 n_4 hp_4 hn_4 => ?_)
  obtain ⟨hp_4, rfl⟩ := hp_4
  have H0 : CpL D h n (us s k) 0 h_4 := ⟨hp_4.1, ⟨hp_4.2.1.choose, hp_4.2.1.choose_spec.1, fun d hd => absurd hd (by omega)⟩, fun d hd => absurd hd (by omega), fun q q1 => (hp_4.2.2.2.2 q (by omega) (by omega)).trans (o0 q (by omega))⟩
  refine g_astore_n (lv' := [(1, _), (0, _)]) C dX2_copy_7 rfl (by decide) rfl ?_
  refine g_iconst C dX2_copy_8 kc_0 ?_
  refine g_istore_n (lv' := [(2, _), (1, _), (0, _)]) C dX2_copy_9 rfl (by decide) rfl ?_
  have loop : ∀ (N_ i : Nat) (h1 : GH), i ≤ 4 → 4 < i + N_ → CpL D h n (us s k) i h1 → gW p_ l e_ (headSpec (ws_ yX2_copy cX2_copy 3 ((some (.object "MapSheets$Sheet")))) (gRm 2 60 12 110)).room U0 m_ args_ below_ meth_ co_ (MQ below_ (gQc D b0 (pR (fun r' h' n' => n = r' ∧ ShAt D b0 h' (aCp n) (us s k) ∧ (∀ q, q < n → h' q = h q) ∧ n + 12 = n'))) args_ U0 12 110 (gA b0)) D b0 3 h1 (n + 7 + i) (7 + i) (60 + 10 * i) 10 [(0, .ref (A 0)), (1, .ref n), (2, .int (nI i))] [] := by
    intro N_
    induction N_ with
    | zero => intro i h1 h1_ h2_; exact absurd h2_ (by omega)
    | succ N_ ih =>
      intro i h1 h1_ h2_ H
      obtain ⟨s1, ⟨F1, s2, s3⟩, s5, s6⟩ := id H
      have S1 : ShAt D b0 h1 A (us s k) := S.kept (fun j hj => s6 _ (hlt j hj))
      obtain ⟨F0, w1, w2⟩ := S1.sides
      refine g_iload_n C dX2_copy_10 rfl 2 rfl ?_
      refine g_iconst C dX2_copy_11 kc_4 ?_
      refine g_icmp_geN (tgt := 39) C dX2_copy_12 (by decide) (by omega) (by omega) (fun c_12 => ?_) (fun c_12 => ?_)
      · refine g_aload_n C dX2_copy_39 rfl 1 rfl ?_
        refine g_aload_n C dX2_copy_40 rfl 0 rfl ?_
        obtain rfl : i = 4 := by omega
        obtain ⟨lf, l1, l2⟩ := S1.leg
        refine g_get C in_X2 S1.obj rfl 1 (by decide) q231 (fun _ hx => hx) rfl dX2_copy_41 ?_
        refine g_clone C q479 l1 (Nat.le_of_ble_eq_true rfl) (Nat.le_of_ble_eq_true rfl) (by show _ ≤ 12; omega) (by show _ ≤ 110; omega) dX2_copy_44 ?_
        refine g_opq (fun h44 e44 o44 => ?_)
        refine g_castI C q225 e44 dX2_copy_47 ?_
        refine g_put C in_X2 tyX2 tyX2_ok nmX2 ((o44 _ (by omega)).trans s1) hb0 rfl 1 (by decide) q231 (fun _ hx => hx) rfl rfl rfl rfl (Nat.le_of_ble_eq_true rfl) rfl dX2_copy_50 ?_
        refine g_opq (fun h50 e50 o50 => ?_)
        refine g_aload_n C dX2_copy_53 rfl 1 rfl ?_
        refine g_aload_n C dX2_copy_54 rfl 0 rfl ?_
        refine g_get C in_X2 ((o50 _ (by have := hlt 0 (by omega); omega)).trans ((o44 _ (by have := hlt 0 (by omega); omega)).trans S1.obj)) rfl 2 (by decide) q233 (fun _ hx => hx) rfl dX2_copy_55 ?_
        refine g_put C in_X2 tyX2 tyX2_ok nmX2 e50 hb0 rfl 2 (by decide) q233 (fun _ hx => hx) rfl rfl rfl rfl (Nat.le_of_ble_eq_true rfl) rfl dX2_copy_58 ?_
        refine g_opq (fun h58 e58 o58 => ?_)
        refine g_aload_n C dX2_copy_61 rfl 1 rfl ?_
        refine g_aload_n C dX2_copy_62 rfl 0 rfl ?_
        refine g_get C in_X2 ((o58 _ (by have := hlt 0 (by omega); omega)).trans ((o50 _ (by have := hlt 0 (by omega); omega)).trans ((o44 _ (by have := hlt 0 (by omega); omega)).trans S1.obj))) rfl 3 (by decide) q236 (fun _ hx => hx) rfl dX2_copy_63 ?_
        refine g_put C in_X2 tyX2 tyX2_ok nmX2 e58 hb0 rfl 3 (by decide) q236 (fun _ hx => hx) rfl rfl rfl rfl (Nat.le_of_ble_eq_true rfl) rfl dX2_copy_66 ?_
        refine g_opq (fun h66 e66 o66 => ?_)
        refine g_aload_n C dX2_copy_69 rfl 1 rfl ?_
        refine g_aload_n C dX2_copy_70 rfl 0 rfl ?_
        refine g_get C in_X2 ((o66 _ (by have := hlt 0 (by omega); omega)).trans ((o58 _ (by have := hlt 0 (by omega); omega)).trans ((o50 _ (by have := hlt 0 (by omega); omega)).trans ((o44 _ (by have := hlt 0 (by omega); omega)).trans S1.obj)))) rfl 5 (by decide) q241 (fun _ hx => hx) rfl dX2_copy_71 ?_
        refine g_topi (y := nI (sv s (ix k 52))) hz.1 ?_
        refine g_V1V C (met_X2_setScale e66 hb0 hz.2.1 hz.2.2) (cwV 1 C.2.2.2.2.1 (lw_V q480 q481 q482 q73 q483) rfl rfl rfl ok_X2_setScale ⟨(Nat.le_of_ble_eq_true rfl), (Nat.le_of_ble_eq_true rfl)⟩) e66 rfl (Nat.le_of_ble_eq_true rfl) dX2_copy_74 ⟨(by show _ ≤ 12; omega), (by show _ ≤ 110; omega)⟩ (fun h_74 n_74 hp_74 hn_74 => ?_)
        obtain ⟨rfl, rfl⟩ := hp_74
        have hfin := CpL.sh (hf := va_up h66 n (gO 2 [.ref (n + 1), .ref (n + 11), .int (us s k 50), .int (xpb (us s k 51)), .float (f_sc (nI (sv s (ix k 52)))), .int (nI (sv s (ix k 52)))])) H hb0 l2 e44 o44 ((va_up_self _ _ _).trans (by rw [← hz.1])) (fun q hq => (va_up_ne _ _ hq).trans ((o66 q hq).trans ((o58 q hq).trans (o50 q hq))))
        refine g_aload_n C dX2_copy_77 rfl 1 rfl ?_
        exact g_aret C hr hlk dX2_copy_78 (Or.inl ⟨_, rfl⟩) (Or.inr ⟨_, rfl⟩) (by omega) (by omega) ⟨_, rfl, ⟨rfl, hfin.1, hfin.2, rfl⟩⟩
      · refine g_aload_n C dX2_copy_15 rfl 1 rfl ?_
        refine g_get C in_X2 s1 rfl 0 (by decide) q227 (fun _ hx => hx) rfl dX2_copy_16 ?_
        refine g_iload_n C dX2_copy_19 rfl 2 rfl ?_
        refine g_aload_n C dX2_copy_20 rfl 0 rfl ?_
        refine g_get C in_X2 S1.obj rfl 0 (by decide) q227 (fun _ hx => hx) rfl dX2_copy_21 ?_
        refine g_iload_n C dX2_copy_24 rfl 2 rfl ?_
        refine g_aald (t0 := 3) (v := .ref (A (3 + i))) C w1 rfl rfl (by omega) (by omega) (by rw [w2 i (by omega)]; rfl) dX2_copy_25 ?_
        obtain ⟨sf, hs1, hs2⟩ := S1.side i (by omega)
        refine g_clone C q479 hs1 (Nat.le_of_ble_eq_true rfl) (Nat.le_of_ble_eq_true rfl) (by show _ ≤ 12; omega) (by show _ ≤ 110; omega) dX2_copy_26 ?_
        refine g_opq (fun h26 e26 o26 => ?_)
        refine g_castI C q225 e26 dX2_copy_29 ?_
        refine g_aastI C ((o26 _ (by omega)).trans s2) hb1 e26 (by omega) (by omega) rfl dX2_copy_32 ?_
        refine g_opq (fun h32 e32 o32 => ?_)
        refine g_iinc (lv' := [(2, _), (0, _), (1, _)]) (t := 2) C dX2_copy_33 rfl (nI_1 _) (by decide) rfl ?_
        refine g_goto (tgt := 10) C dX2_copy_36 (by decide) ?_
        refine g_pick (lv' := [(0, _), (1, _), (2, _)]) [1, 2, 0] rfl ?_
        refine g_widen (k1 := 7 + (i + 1)) (k2 := 60 + 10 * (i + 1)) (by omega) (by omega) ?_
        exact ih (i + 1) h32 (by omega) (by omega) (H.step s3 e26 hs2 o26 e32 o32)
  refine g_pick (lv' := [(0, _), (1, _), (2, _)]) [2, 1, 0] rfl ?_
  refine g_widen (k1 := 7 + 0) (k2 := 60 + 10 * 0) (by omega) (by omega) ?_
  exact loop 5 0 h_4 (by omega) (by omega) H0
