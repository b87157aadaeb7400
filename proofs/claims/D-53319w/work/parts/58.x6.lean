theorem ok_X1_blocks : yX1_blocks.cls = "MapSheets$Library" ∧ yX1_blocks.cls ≠ "java/lang/invoke/MethodHandle" ∧ yX1_blocks.cls ≠ "java/lang/invoke/VarHandle" ∧ (parseMethodDescriptor yX1_blocks.desc).map (fun d => d.parameters.length) = some 0 := by decide +kernel
set_option maxHeartbeats 4000000 in
set_option maxRecDepth 100000 in
theorem met_X1_blocks {l : Launch} {D : va_G} {b0 n : Nat} {h : GH} {Z : Nat → Prop} {ad : Nat → Nat} {s : Nat → Int32} {c r : Nat} (B : LbAt D b0 h Z ad s c r) (I : MI s c r) (Gg : MG s) : gMet l yX1_blocks cX1_blocks 6 ((some (.array .int))) 3 61 1302 5240 D b0 h n [.ref (ad 0)] (pR (fun r' h' n' => n = r' ∧ IA D h' n (c * r) (fun k => nI (m_bl s c r k)) ∧ (∀ q, q < n → h' q = h q) ∧ n < n')) := by
  refine gMet.of (lv := [(0, _)]) (by decide) (Nat.le_of_ble_eq_true rfl) rfl ?_
  intro p_ e_ U0 m_ args_ below_ meth_ co_ C hr hlk hnm
  have hI := m_ed_le I
  obtain ⟨I0, I1, I2, I3, I4, I5⟩ := id I
  obtain ⟨cp1, mm1, F1, L1, G1⟩ := B.l1
  obtain ⟨cp2, mm2, F2, L2, G2⟩ := B.l2
  refine g_none (fun hno => ?_)
  refine g_size C (fun hb0 => ?_)
  refine g_aload_n C dX1_blocks_0 rfl 0 rfl ?_
  refine g_get C in_X1 B.obj rfl 2 (by decide) q143 (fun _ hx => hx) rfl dX1_blocks_1 ?_
  refine g_V0I C (met_J2_size L1.1) (cwV 0 C.2.2.2.2.1 (lw_V q485 q413 q414 q67 q415) rfl rfl rfl ok_J2_size ⟨(Nat.le_of_ble_eq_true rfl), (Nat.le_of_ble_eq_true rfl)⟩) L1.1 rfl (Nat.le_of_ble_eq_true rfl) dX1_blocks_4 ⟨(by show _ ≤ 1302; omega), (by show _ ≤ 5240; omega)⟩ (fun r_4 h_4 n_4 hp_4 hn_4 => ?_)
  obtain ⟨rfl, rfl, rfl⟩ := hp_4
  refine g_newi C (by omega) (by show _ ≤ 1302; omega) (by show _ ≤ 5240; omega) dX1_blocks_7 ?_
  refine g_opq (fun h7 e7 o7 => ?_)
  refine g_astore_n (lv' := [(1, _), (0, _)]) C dX1_blocks_9 rfl (by decide) rfl ?_
  refine g_iconst C dX1_blocks_10 kc_0 ?_
  refine g_istore_n (lv' := [(2, _), (1, _), (0, _)]) C dX1_blocks_11 rfl (by decide) rfl ?_
  have loop : ∀ (N_ i : Nat) (h1 : GH), i ≤ c * r → c * r < i + N_ → (∃ f, h1 n = gI D (c * r) f ∧ ∀ k, k < i → f k = nI k) → (∀ q, q < n → h1 q = h q) → gW p_ l e_ (headSpec (ws_ yX1_blocks cX1_blocks 6 ((some (.array .int)))) (gRm 3 61 1302 5240)).room U0 m_ args_ below_ meth_ co_ (MQ below_ (gQc D b0 (pR (fun r' h' n' => n = r' ∧ IA D h' n (c * r) (fun k => nI (m_bl s c r k)) ∧ (∀ q, q < n → h' q = h q) ∧ n < n'))) args_ U0 1302 5240 (gA b0)) D b0 6 h1 (n + 1) 1 36 12 [(0, .ref (ad 0)), (1, .ref n), (2, .int (nI i))] [] := by
    intro N_
    induction N_ with
    | zero => intro i h1 h1_ h2_; exact absurd h2_ (by omega)
    | succ N_ ih =>
      intro i h1 h1_ h2_ R1 fr
      obtain ⟨f, r1, r2⟩ := R1
      refine g_iload_n C dX1_blocks_12 rfl 2 rfl ?_
      refine g_aload_n C dX1_blocks_13 rfl 1 rfl ?_
      refine g_alen (t0 := 0) (v := nI (c * r)) C r1 rfl rfl dX1_blocks_14 ?_
      refine g_icmp_geN (tgt := 28) C dX1_blocks_15 (by decide) (by omega) (by omega) (fun c_15 => ?_) (fun c_15 => ?_)
      · refine g_iconst C dX1_blocks_28 kc_1 ?_
        refine g_topi (y := bI (true)) rfl ?_
        refine g_istore_n (lv' := [(2, _), (0, _), (1, _)]) C dX1_blocks_29 rfl (by decide) rfl ?_
        have loop2 : ∀ (N2 : Nat) (Bf : Nat → Nat) (gs : Bool) (h1 : GH) (n1 : Nat), (∀ k, k < c * r → Bf k < 36) → ((gs = true ∧ bsum Bf (c * r) + 1 < N2 ∧ m_bl s c r = m_bt (m_ag s) c r (N2 - 1) Bf) ∨ (gs = false ∧ m_bl s c r = Bf ∧ 0 < N2)) → N2 ≤ 1301 → IA D h1 n (c * r) (fun k => nI (Bf k)) → (∀ q, q < n → h1 q = h q) → n < n1 → gW p_ l e_ (headSpec (ws_ yX1_blocks cX1_blocks 6 ((some (.array .int)))) (gRm 3 61 1302 5240)).room U0 m_ args_ below_ meth_ co_ (MQ below_ (gQc D b0 (pR (fun r' h' n' => n = r' ∧ IA D h' n (c * r) (fun k => nI (m_bl s c r k)) ∧ (∀ q, q < n → h' q = h q) ∧ n < n'))) args_ U0 1302 5240 (gA b0)) D b0 6 h1 n1 (1 + (1301 - N2)) (36 + 4 * (1301 - N2)) 30 [(0, .ref (ad 0)), (1, .ref n), (2, .int (bI gs))] [] := by
          intro N2
          induction N2 with
          | zero => intro Bf gs h1 n1 hB hg; exact absurd hg (by omega)
          | succ N2 ih2 =>
            intro Bf gs h1 n1 hB hg hN2 R1 fr hn1
            refine g_none (fun hno1 => ?_)
            refine g_size C (fun hb1 => ?_)
            have B1 : LbAt D b0 h1 Z ad s c r := B.kept (fun j hj => fr _ (B.lt hno hj))
            have L2k : LiAt D b0 h1 (ad 2) (ad 5) cp2 (m_ed c r) mm2 F2 := L2.kept (fr _ (B.lt hno (Or.inl (by omega)))) (fr _ (B.lt hno (Or.inl (by omega))))
            obtain ⟨f1, a1, a2⟩ := id R1
            refine g_iload_n C dX1_blocks_30 rfl 2 rfl ?_
            refine g_if_eqB (tgt := 176) C dX1_blocks_31 (by decide) (fun c_31 => ?_) (fun c_31 => ?_)
            · have hBl : m_bl s c r = Bf := by
                rcases hg with ⟨hg1, -⟩ | ⟨-, hg2, -⟩
                · rw [c_31] at hg1; cases hg1
                · exact hg2
              refine g_aload_n C dX1_blocks_176 rfl 1 rfl ?_
              exact g_aret C hr hlk dX1_blocks_177 (Or.inr ⟨_, rfl⟩) (Or.inr ⟨_, rfl⟩) (by omega) (by omega) ⟨_, rfl, ⟨rfl, by rw [hBl]; exact R1, fr, hn1⟩⟩
            · refine g_iconst C dX1_blocks_34 kc_0 ?_
              refine g_topi (y := bI (m_bc (m_ag s) c r Bf 0)) rfl ?_
              refine g_istore_n (lv' := [(2, _), (0, _), (1, _)]) C dX1_blocks_35 rfl (by decide) rfl ?_
              refine g_aload_n C dX1_blocks_36 rfl 1 rfl ?_
              refine g_get C in_X1 B1.obj rfl 3 (by decide) q145 (fun _ hx => hx) rfl dX1_blocks_37 ?_
              refine g_V0R C (met_J2_iterator L2k.1) (cwV 0 C.2.2.2.2.1 (lw_V q427 q428 q429 q67 q430) rfl rfl rfl ok_J2_iterator ⟨(Nat.le_of_ble_eq_true rfl), (Nat.le_of_ble_eq_true rfl)⟩) L2k.1 rfl (Nat.le_of_ble_eq_true rfl) dX1_blocks_40 ⟨(by show _ ≤ 1302; omega), (by show _ ≤ 5240; omega)⟩ (fun r_40 h_40 n_40 hp_40 hn_40 => ?_)
              obtain ⟨rfl, rfl, rfl⟩ := hp_40
              refine g_astore_n (lv' := [(3, _), (2, _), (0, _), (1, _)]) C dX1_blocks_43 rfl (by decide) rfl ?_
              have loop3 : ∀ (N3 i : Nat) (h2 : GH) (lr : Int32), i ≤ m_ed c r → m_ed c r < i + N3 → h2 n1 = gO 11 [.int (nI i), .int lr, .int mm2, .ref (ad 2)] → IA D h2 n (c * r) (fun k => nI (m_bp (m_ag s) c r Bf i k)) → (∀ q, q < n → h2 q = h q) → gW p_ l e_ (headSpec (ws_ yX1_blocks cX1_blocks 6 ((some (.array .int)))) (gRm 3 61 1302 5240)).room U0 m_ args_ below_ meth_ co_ (MQ below_ (gQc D b0 (pR (fun r' h' n' => n = r' ∧ IA D h' n (c * r) (fun k => nI (m_bl s c r k)) ∧ (∀ q, q < n → h' q = h q) ∧ n < n'))) args_ U0 1302 5240 (gA b0)) D b0 6 h2 (n1 + 1) (1 + (1301 - (N2 + 1)) + 1) (36 + 4 * (1301 - (N2 + 1)) + 4) 44 [(0, .ref (ad 0)), (1, .ref n), (2, .int (bI (m_bc (m_ag s) c r Bf (i)))), (3, .ref n1)] [] := by
                intro N3
                induction N3 with
                | zero => intro i h2 lr h5_ h6_; exact absurd h6_ (by omega)
                | succ N3 ih3 =>
                  intro i h2 lr h5_ h6_ hT R2 fr2
                  obtain ⟨P, hP⟩ : ∃ P, P = m_bp (m_ag s) c r Bf i := ⟨_, rfl⟩
                  obtain ⟨f2, p1, p2⟩ := id R2
                  have L2m : LiAt D b0 h2 (ad 2) (ad 5) cp2 (m_ed c r) mm2 F2 := L2.kept (fr2 _ (B.lt hno (Or.inl (by omega)))) (fr2 _ (B.lt hno (Or.inl (by omega))))
                  have hPB : ∀ k, k < c * r → P k < 36 := fun k hk => by rw [hP]; exact Nat.lt_of_le_of_lt (m_bp_le _ _ _ _ _ _) (hB k hk)
                  refine g_aload_n C dX1_blocks_44 rfl 3 rfl ?_
                  refine g_F0I C (met_J11_hasNext hT L2m.1 (by omega) (by omega)) (va_cwF 0 C.2.2.2.2.1 (lw_app (lw_l4 q451 q455 q457 q80) (lw_meth q459)) rfl rfl rfl C.2.2.2.2.2.1.2.2.2.2.2.1 okF_hasNext ⟨(Nat.le_of_ble_eq_true rfl), (Nat.le_of_ble_eq_true rfl)⟩) hT rfl (Nat.le_of_ble_eq_true rfl) dX1_blocks_45 ⟨(by show _ ≤ 1302; omega), (by show _ ≤ 5240; omega)⟩ (fun r_45 h_45 n_45 hp_45 hn_45 => ?_)
                  obtain ⟨rfl, rfl, rfl⟩ := hp_45
                  refine g_if_eqB (tgt := 173) C dX1_blocks_50 (by decide) (fun c_50 => ?_) (fun c_50 => ?_)
                  · refine g_goto (tgt := 30) C dX1_blocks_173 (by decide) ?_
                    refine g_pick (lv' := [(0, _), (1, _), (2, _)]) [0, 1, 2] rfl ?_
                    obtain rfl : i = m_ed c r := by have := of_decide_eq_false c_50; omega
                    have hgo : 1 < N2 ∨ N2 ≤ 1 := by omega
                    refine g_widen (k1 := 1 + (1301 - N2)) (k2 := 36 + 4 * (1301 - N2)) (by omega) (by omega) ?_
                    exact ih2 (m_bp (m_ag s) c r Bf (m_ed c r)) _ h2 (n1 + 1) (fun k hk => Nat.lt_of_le_of_lt (m_bp_le _ _ _ _ _ _) (hB k hk)) (by
                      rcases hg with ⟨-, hg1, hg2⟩ | ⟨hg1, -⟩
                      · obtain ⟨N4, rfl⟩ : ∃ M, N2 = M + 1 := ⟨N2 - 1, by omega⟩
                        rw [Nat.add_sub_cancel] at hg2
                        cases hch : m_bc (m_ag s) c r Bf (m_ed c r) with
                        | true => exact Or.inl ⟨rfl, by have := m_bp_lt I Bf (m_ed c r) (Nat.le_refl _) hch; omega, by rw [hg2, m_bt_t hch]; rfl⟩
                        | false => exact Or.inr ⟨rfl, by rw [hg2, m_bt_f hch, m_bp_same hch], by omega⟩
                      · rw [c_31] at hg1; cases hg1) (by omega) R2 fr2 (by omega)
                  · have hi := of_decide_eq_true c_50
                    refine g_aload_n C dX1_blocks_53 rfl 3 rfl ?_
                    refine g_F0R C (met_J11_next hT hb1 L2m.1 L2m.2.1 hi L2m.2.2.1 L2m.2.2.2.1 (G2 i hi)) (va_cwF 0 C.2.2.2.2.1 (lw_app (lw_l4 q461 q464 q466 q80) (lw_meth q468)) rfl rfl rfl C.2.2.2.2.2.1.2.2.2.2.2.2.1 okF_next ⟨(Nat.le_of_ble_eq_true rfl), (Nat.le_of_ble_eq_true rfl)⟩) hT rfl (Nat.le_of_ble_eq_true rfl) dX1_blocks_54 ⟨(by show _ ≤ 1302; omega), (by show _ ≤ 5240; omega)⟩ (fun r_54 h_54 n_54 hp_54 hn_54 => ?_)
                    obtain ⟨rfl, rfl, rfl⟩ := hp_54
                    refine g_opq (fun h3 e3 o3 => ?_)
                    have fr3 : ∀ q, q < n → h3 q = h q := fun q hq => (o3 q (by omega)).trans (fr2 q hq)
                    have B3 : LbAt D b0 h3 Z ad s c r := B.kept (fun j hj => fr3 _ (B.lt hno hj))
                    have p3 : h3 n = gI D (c * r) f2 := (o3 _ (by omega)).trans p1
                    have hfs := m_fs_lt I hi
                    have hq1 := hPB _ hfs.1
                    have hq2 := hPB _ hfs.2.1
                    rw [hP] at hq1 hq2
                    have hlE := B.lt hno (i := 6 + i) (Or.inr (Or.inl (by omega)))
                    refine g_castS C q320 (B3.ed i hi) rfl dX1_blocks_59 ?_
                    refine g_astore (lv' := [(4, _), (0, _), (1, _), (2, _), (3, _)]) C dX1_blocks_62 (by decide) rfl ?_
                    refine g_aload_n C dX1_blocks_64 rfl 2 rfl ?_
                    refine g_aload C dX1_blocks_65 0 rfl ?_
                    refine g_getN C in_X3 (B3.ed i hi) rfl 0 (by decide) q327 (fun _ hx => hx) rfl dX1_blocks_67 ?_
                    refine g_ialdN C p3 (by omega) (by omega) dX1_blocks_70 ?_
                    refine g_topi (y := nI (m_bp (m_ag s) c r Bf i (m_fst c r i))) (p2 _ hfs.1) ?_
                    refine g_aload_n C dX1_blocks_71 rfl 2 rfl ?_
                    refine g_aload C dX1_blocks_72 0 rfl ?_
                    refine g_getN C in_X3 (B3.ed i hi) rfl 1 (by decide) q330 (fun _ hx => hx) rfl dX1_blocks_74 ?_
                    refine g_ialdN C p3 (by omega) (by omega) dX1_blocks_77 ?_
                    refine g_topi (y := nI (m_bp (m_ag s) c r Bf i (m_snd c r i))) (p2 _ hfs.2.1) ?_
                    refine g_S2I C (met_J9_min (by omega) (by omega)) (va_cwS 2 C.2.2.2.2.1 (lw_S q619 q309 q75 q310) rfl rfl rfl ok_J9_min ⟨(Nat.le_of_ble_eq_true rfl), (Nat.le_of_ble_eq_true rfl)⟩) (Nat.le_of_ble_eq_true rfl) dX1_blocks_78 ⟨(by show _ ≤ 1302; omega), (by show _ ≤ 5240; omega)⟩ (fun r_78 h_78 n_78 hp_78 hn_78 => ?_)
                    obtain ⟨rfl, rfl, rfl⟩ := hp_78
                    refine g_istore (lv' := [(5, _), (4, _), (0, _), (1, _), (2, _), (3, _)]) C dX1_blocks_81 (by decide) rfl ?_
                    refine g_iload_n C dX1_blocks_83 rfl 4 rfl ?_
                    refine g_aload C dX1_blocks_84 1 rfl ?_
                    refine g_getN C in_X3 (B3.ed i hi) rfl 3 (by decide) q334 (fun _ hx => hx) rfl dX1_blocks_86 ?_
                    refine g_if_eq (tgt := 113) C dX1_blocks_89 (by decide) (fun c_89 => ?_) (fun c_89 => ?_)
                    · rw [Gg.n (by omega)] at c_89
                      refine g_iconst C dX1_blocks_113 kc_0 ?_
                      refine g_ior C dX1_blocks_114 ?_
                      refine g_topi (y := bI (m_bc (m_ag s) c r Bf (i + 1))) (by show bI _ ||| nI 0 = bI (m_bc (m_ag s) c r Bf i || (decide (s (4 + i) = 1) && _)); rw [decide_eq_false c_89, Bool.false_and, show nI 0 = bI false by decide, bI_or]) ?_
                      refine g_istore_n (lv' := [(2, _), (5, _), (4, _), (0, _), (1, _), (3, _)]) C dX1_blocks_115 rfl (by decide) rfl ?_
                      refine g_aload_n C dX1_blocks_116 rfl 4 rfl ?_
                      refine g_aload C dX1_blocks_117 2 rfl ?_
                      refine g_getN C in_X3 (B3.ed i hi) rfl 0 (by decide) q327 (fun _ hx => hx) rfl dX1_blocks_119 ?_
                      refine g_aload C dX1_blocks_122 2 rfl ?_
                      refine g_getN C in_X3 (B3.ed i hi) rfl 3 (by decide) q334 (fun _ hx => hx) rfl dX1_blocks_124 ?_
                      refine g_if_eq (tgt := 135) C dX1_blocks_127 (by decide) (fun c_127 => ?_) (fun c_127 => absurd ((Gg.n (by omega)).mpr c_89) c_127)
                      refine g_aload_n C dX1_blocks_135 rfl 4 rfl ?_
                      refine g_aload C dX1_blocks_136 2 rfl ?_
                      refine g_getN C in_X3 (B3.ed i hi) rfl 0 (by decide) q327 (fun _ hx => hx) rfl dX1_blocks_138 ?_
                      refine g_ialdN C p3 (by omega) (by omega) dX1_blocks_141 ?_
                      refine g_iastN C p3 hb0 (by omega) (by omega) rfl dX1_blocks_142 ?_
                      refine g_opq (fun h142 e142 o142 => ?_)
                      refine g_aload_n C dX1_blocks_143 rfl 4 rfl ?_
                      refine g_aload C dX1_blocks_144 2 rfl ?_
                      refine g_getN C in_X3 ((o142 _ (by first | assumption | omega)).trans (B3.ed i hi)) rfl 1 (by decide) q330 (fun _ hx => hx) rfl dX1_blocks_146 ?_
                      refine g_aload C dX1_blocks_149 2 rfl ?_
                      refine g_getN C in_X3 ((o142 _ (by first | assumption | omega)).trans (B3.ed i hi)) rfl 3 (by decide) q334 (fun _ hx => hx) rfl dX1_blocks_151 ?_
                      refine g_if_eq (tgt := 162) C dX1_blocks_154 (by decide) (fun c_154 => ?_) (fun c_154 => absurd ((Gg.n (by omega)).mpr c_89) c_154)
                      refine g_aload_n C dX1_blocks_162 rfl 4 rfl ?_
                      refine g_aload C dX1_blocks_163 2 rfl ?_
                      refine g_getN C in_X3 ((o142 _ (by first | assumption | omega)).trans (B3.ed i hi)) rfl 1 (by decide) q330 (fun _ hx => hx) rfl dX1_blocks_165 ?_
                      refine g_ialdN C e142 (by omega) (by omega) dX1_blocks_168 ?_
                      refine g_iastN C e142 hb0 (by omega) (by omega) rfl dX1_blocks_169 ?_
                      refine g_opq (fun h169 e169 o169 => ?_)
                      refine g_goto (tgt := 44) C dX1_blocks_170 (by decide) ?_
                      refine g_pick (lv' := [(0, _), (1, _), (2, _), (3, _)]) [3, 4, 0, 5] rfl ?_
                      exact ih3 (i + 1) h169 (nI i) (by omega) (by omega) ((o169 _ (by omega)).trans ((o142 _ (by omega)).trans e3)) ⟨_, e169, fun k hk => (bs_n (ag := m_ag s) (fun k hk => by rw [p2 k hk]) (decide_eq_false c_89) k hk)⟩ (fun q hq => (o169 q (by omega)).trans ((o142 q (by omega)).trans (fr3 q hq)))
                    · rw [Gg.n (by omega)] at c_89
                      refine g_aload_n C dX1_blocks_92 rfl 3 rfl ?_
                      refine g_aload C dX1_blocks_93 1 rfl ?_
                      refine g_getN C in_X3 (B3.ed i hi) rfl 0 (by decide) q327 (fun _ hx => hx) rfl dX1_blocks_95 ?_
                      refine g_ialdN C p3 (by omega) (by omega) dX1_blocks_98 ?_
                      refine g_topi (y := nI (m_bp (m_ag s) c r Bf i (m_fst c r i))) (p2 _ hfs.1) ?_
                      refine g_aload_n C dX1_blocks_99 rfl 3 rfl ?_
                      refine g_aload C dX1_blocks_100 1 rfl ?_
                      refine g_getN C in_X3 (B3.ed i hi) rfl 1 (by decide) q330 (fun _ hx => hx) rfl dX1_blocks_102 ?_
                      refine g_ialdN C p3 (by omega) (by omega) dX1_blocks_105 ?_
                      refine g_topi (y := nI (m_bp (m_ag s) c r Bf i (m_snd c r i))) (p2 _ hfs.2.1) ?_
                      refine g_icmp_eqN (tgt := 113) C dX1_blocks_106 (by decide) (by omega) (by omega) (fun c_106 => ?_) (fun c_106 => ?_)
                      · refine g_iconst C dX1_blocks_113 kc_0 ?_
                        refine g_ior C dX1_blocks_114 ?_
                        refine g_topi (y := bI (m_bc (m_ag s) c r Bf (i + 1))) (by show bI _ ||| nI 0 = bI (m_bc (m_ag s) c r Bf i || (decide (s (4 + i) = 1) && decide (¬ _ = _))); rw [decide_eq_false (p := ¬ m_bp (m_ag s) c r Bf i (m_fst c r i) = m_bp (m_ag s) c r Bf i (m_snd c r i)) (fun z => z c_106), Bool.and_false, show nI 0 = bI false by decide, bI_or]) ?_
                        refine g_istore_n (lv' := [(2, _), (5, _), (4, _), (0, _), (1, _), (3, _)]) C dX1_blocks_115 rfl (by decide) rfl ?_
                        refine g_aload_n C dX1_blocks_116 rfl 4 rfl ?_
                        refine g_aload C dX1_blocks_117 2 rfl ?_
                        refine g_getN C in_X3 (B3.ed i hi) rfl 0 (by decide) q327 (fun _ hx => hx) rfl dX1_blocks_119 ?_
                        refine g_aload C dX1_blocks_122 2 rfl ?_
                        refine g_getN C in_X3 (B3.ed i hi) rfl 3 (by decide) q334 (fun _ hx => hx) rfl dX1_blocks_124 ?_
                        refine g_if_eq (tgt := 135) C dX1_blocks_127 (by decide) (fun c_127 => absurd ((Gg.n (by omega)).mp c_127) c_89) (fun c_127 => ?_)
                        refine g_iload C dX1_blocks_130 1 rfl ?_
                        refine g_goto (tgt := 142) C dX1_blocks_132 (by decide) ?_
                        refine g_iastN C p3 hb0 (by omega) (by omega) rfl dX1_blocks_142 ?_
                        refine g_opq (fun h142 e142 o142 => ?_)
                        refine g_aload_n C dX1_blocks_143 rfl 4 rfl ?_
                        refine g_aload C dX1_blocks_144 2 rfl ?_
                        refine g_getN C in_X3 ((o142 _ (by first | assumption | omega)).trans (B3.ed i hi)) rfl 1 (by decide) q330 (fun _ hx => hx) rfl dX1_blocks_146 ?_
                        refine g_aload C dX1_blocks_149 2 rfl ?_
                        refine g_getN C in_X3 ((o142 _ (by first | assumption | omega)).trans (B3.ed i hi)) rfl 3 (by decide) q334 (fun _ hx => hx) rfl dX1_blocks_151 ?_
                        refine g_if_eq (tgt := 162) C dX1_blocks_154 (by decide) (fun c_154 => absurd ((Gg.n (by omega)).mp c_154) c_89) (fun c_154 => ?_)
                        refine g_iload C dX1_blocks_157 1 rfl ?_
                        refine g_goto (tgt := 169) C dX1_blocks_159 (by decide) ?_
                        refine g_iastN C e142 hb0 (by omega) (by omega) rfl dX1_blocks_169 ?_
                        refine g_opq (fun h169 e169 o169 => ?_)
                        refine g_goto (tgt := 44) C dX1_blocks_170 (by decide) ?_
                        refine g_pick (lv' := [(0, _), (1, _), (2, _), (3, _)]) [3, 4, 0, 5] rfl ?_
                        exact ih3 (i + 1) h169 (nI i) (by omega) (by omega) ((o169 _ (by omega)).trans ((o142 _ (by omega)).trans e3)) ⟨_, e169, fun k hk => (bs_a (ag := m_ag s) (fun k hk => by rw [p2 k hk]) (decide_eq_true (Decidable.not_not.mp c_89)) k hk)⟩ (fun q hq => (o169 q (by omega)).trans ((o142 q (by omega)).trans (fr3 q hq)))
                      · refine g_iconst C dX1_blocks_109 kc_1 ?_
                        refine g_goto (tgt := 114) C dX1_blocks_110 (by decide) ?_
                        refine g_ior C dX1_blocks_114 ?_
                        refine g_topi (y := bI (m_bc (m_ag s) c r Bf (i + 1))) (by show bI _ ||| nI 1 = bI (m_bc (m_ag s) c r Bf i || (decide (s (4 + i) = 1) && decide (¬ _ = _))); rw [decide_eq_true c_106, decide_eq_true (Decidable.not_not.mp c_89), show nI 1 = bI true by decide, bI_or]; rfl) ?_
                        refine g_istore_n (lv' := [(2, _), (5, _), (4, _), (0, _), (1, _), (3, _)]) C dX1_blocks_115 rfl (by decide) rfl ?_
                        refine g_aload_n C dX1_blocks_116 rfl 4 rfl ?_
                        refine g_aload C dX1_blocks_117 2 rfl ?_
                        refine g_getN C in_X3 (B3.ed i hi) rfl 0 (by decide) q327 (fun _ hx => hx) rfl dX1_blocks_119 ?_
                        refine g_aload C dX1_blocks_122 2 rfl ?_
                        refine g_getN C in_X3 (B3.ed i hi) rfl 3 (by decide) q334 (fun _ hx => hx) rfl dX1_blocks_124 ?_
                        refine g_if_eq (tgt := 135) C dX1_blocks_127 (by decide) (fun c_127 => absurd ((Gg.n (by omega)).mp c_127) c_89) (fun c_127 => ?_)
                        refine g_iload C dX1_blocks_130 1 rfl ?_
                        refine g_goto (tgt := 142) C dX1_blocks_132 (by decide) ?_
                        refine g_iastN C p3 hb0 (by omega) (by omega) rfl dX1_blocks_142 ?_
                        refine g_opq (fun h142 e142 o142 => ?_)
                        refine g_aload_n C dX1_blocks_143 rfl 4 rfl ?_
                        refine g_aload C dX1_blocks_144 2 rfl ?_
                        refine g_getN C in_X3 ((o142 _ (by first | assumption | omega)).trans (B3.ed i hi)) rfl 1 (by decide) q330 (fun _ hx => hx) rfl dX1_blocks_146 ?_
                        refine g_aload C dX1_blocks_149 2 rfl ?_
                        refine g_getN C in_X3 ((o142 _ (by first | assumption | omega)).trans (B3.ed i hi)) rfl 3 (by decide) q334 (fun _ hx => hx) rfl dX1_blocks_151 ?_
                        refine g_if_eq (tgt := 162) C dX1_blocks_154 (by decide) (fun c_154 => absurd ((Gg.n (by omega)).mp c_154) c_89) (fun c_154 => ?_)
                        refine g_iload C dX1_blocks_157 1 rfl ?_
                        refine g_goto (tgt := 169) C dX1_blocks_159 (by decide) ?_
                        refine g_iastN C e142 hb0 (by omega) (by omega) rfl dX1_blocks_169 ?_
                        refine g_opq (fun h169 e169 o169 => ?_)
                        refine g_goto (tgt := 44) C dX1_blocks_170 (by decide) ?_
                        refine g_pick (lv' := [(0, _), (1, _), (2, _), (3, _)]) [3, 4, 0, 5] rfl ?_
                        exact ih3 (i + 1) h169 (nI i) (by omega) (by omega) ((o169 _ (by omega)).trans ((o142 _ (by omega)).trans e3)) ⟨_, e169, fun k hk => (bs_a (ag := m_ag s) (fun k hk => by rw [p2 k hk]) (decide_eq_true (Decidable.not_not.mp c_89)) k hk)⟩ (fun q hq => (o169 q (by omega)).trans ((o142 q (by omega)).trans (fr3 q hq)))
              refine g_pick (lv' := [(0, _), (1, _), (2, _), (3, _)]) [2, 3, 1, 0] rfl ?_
              exact loop3 (m_ed c r + 1) 0 _ (-1) (by omega) (by omega) (va_up_self _ _ _) (R1.kept (va_up_ne _ _ (by omega))) (fun q hq => (va_up_ne _ _ (by omega)).trans (fr q hq))
        refine g_pick (lv' := [(0, _), (1, _), (2, _)]) [1, 2, 0] rfl ?_
        refine g_widen (k1 := 1 + (1301 - 1301)) (k2 := 36 + 4 * (1301 - 1301)) (by omega) (by omega) ?_
        exact loop2 1301 (fun k => k) true h1 (n + 1) (fun k hk => by omega) (Or.inl ⟨rfl, by have := bsum_id (c * r) (by omega); omega, rfl⟩) (by omega) ⟨f, r1, fun k hk => r2 k (by omega)⟩ fr (by omega)
      · refine g_aload_n C dX1_blocks_18 rfl 1 rfl ?_
        refine g_iload_n C dX1_blocks_19 rfl 2 rfl ?_
        refine g_iload_n C dX1_blocks_20 rfl 2 rfl ?_
        refine g_iastN C r1 hb0 (by omega) (by omega) rfl dX1_blocks_21 ?_
        refine g_opq (fun h21 e21 o21 => ?_)
        refine g_iinc (lv' := [(2, _), (0, _), (1, _)]) (t := 2) C dX1_blocks_22 rfl (nI_1 _) (by decide) rfl ?_
        refine g_goto (tgt := 12) C dX1_blocks_25 (by decide) ?_
        refine g_pick (lv' := [(0, _), (1, _), (2, _)]) [1, 2, 0] rfl ?_
        exact ih (i + 1) h21 (by omega) (by omega) ⟨_, e21, fun k hk => by unfold upd; split; rename_i q; rw [q]; exact r2 k (by omega)⟩ (fun q hq => (o21 q (by omega)).trans (fr q hq))
  refine g_pick (lv' := [(0, _), (1, _), (2, _)]) [2, 1, 0] rfl ?_
  refine g_widen (k1 := 1) (k2 := 36) (by omega) (by omega) ?_
  exact loop (c * r + 1) 0 h7 (by omega) (by omega) ⟨_, e7, fun k hk => absurd hk (by omega)⟩ (fun q hq => o7 q (by omega))
theorem ok_X1_blockMany : yX1_blockMany.cls = "MapSheets$Library" ∧ yX1_blockMany.cls ≠ "java/lang/invoke/MethodHandle" ∧ yX1_blockMany.cls ≠ "java/lang/invoke/VarHandle" ∧ (parseMethodDescriptor yX1_blockMany.desc).map (fun d => d.parameters.length) = some 0 := by decide +kernel
set_option maxHeartbeats 4000000 in
set_option maxRecDepth 100000 in
theorem met_X1_blockMany {l : Launch} {D : va_G} {b0 n : Nat} {h : GH} {Z : Nat → Prop} {ad : Nat → Nat} {s : Nat → Int32} {c r : Nat} (B : LbAt D b0 h Z ad s c r) (I : MI s c r) (Gg : MG s) : gMet l yX1_blockMany cX1_blockMany 4 ((some .int)) 4 86 1302 5240 D b0 h n [.ref (ad 0)] (pI (fun r' h' n' => nI (m_bn s c r) = r' ∧ (∀ q, q < n → h' q = h q) ∧ n < n')) := by
  refine gMet.of (lv := [(0, _)]) (by decide) (Nat.le_of_ble_eq_true rfl) rfl ?_
  intro p_ e_ U0 m_ args_ below_ meth_ co_ C hr hlk hnm
  have hI := m_ed_le I
  obtain ⟨I0, I1, I2, I3, I4, I5⟩ := id I
  refine g_aload_n C dX1_blockMany_0 rfl 0 rfl ?_
  refine g_V0R C (met_X1_blocks B I Gg) (cwV 0 C.2.2.2.2.1 (lw_V q649 q616 q617 q64 q618) rfl rfl rfl ok_X1_blocks ⟨(Nat.le_of_ble_eq_true rfl), (Nat.le_of_ble_eq_true rfl)⟩) B.obj rfl (Nat.le_of_ble_eq_true rfl) dX1_blockMany_1 ⟨(Nat.le_of_ble_eq_true rfl), (Nat.le_of_ble_eq_true rfl)⟩ (fun r_1 h_1 n_1 hp_1 hn_1 => ?_)
  obtain ⟨rfl, ⟨f, r1, r2⟩, fr, hln⟩ := hp_1
  refine g_astore_n (lv' := [(1, _), (0, _)]) C dX1_blockMany_4 rfl (by decide) rfl ?_
  refine g_iconst C dX1_blockMany_5 kc_0 ?_
  refine g_istore_n (lv' := [(2, _), (1, _), (0, _)]) C dX1_blockMany_6 rfl (by decide) rfl ?_
  refine g_iconst C dX1_blockMany_7 kc_0 ?_
  refine g_istore_n (lv' := [(3, _), (2, _), (1, _), (0, _)]) C dX1_blockMany_8 rfl (by decide) rfl ?_
  have loop : ∀ (N_ i : Nat) , i ≤ c * r → c * r < i + N_ → gW p_ l e_ (headSpec (ws_ yX1_blockMany cX1_blockMany 4 ((some .int))) (gRm 4 86 1302 5240)).room U0 m_ args_ below_ meth_ co_ (MQ below_ (gQc D b0 (pI (fun r' h' n' => nI (m_bn s c r) = r' ∧ (∀ q, q < n → h' q = h q) ∧ n < n'))) args_ U0 1302 5240 (gA b0)) D b0 4 h_1 n_1 1302 5240 9 [(0, .ref (ad 0)), (1, .ref n), (2, .int (nI (cnt (fun k => decide (m_bl s c r k = k)) i))), (3, .int (nI i))] [] := by
    intro N_
    induction N_ with
    | zero => intro i  h1_ h2_; exact absurd h2_ (by omega)
    | succ N_ ih =>
      intro i  h1_ h2_ 
      refine g_iload_n C dX1_blockMany_9 rfl 3 rfl ?_
      refine g_aload_n C dX1_blockMany_10 rfl 1 rfl ?_
      refine g_alen (t0 := 0) (v := nI (c * r)) C r1 rfl rfl dX1_blockMany_11 ?_
      refine g_icmp_geN (tgt := 36) C dX1_blockMany_12 (by decide) (by omega) (by omega) (fun c_12 => ?_) (fun c_12 => ?_)
      · refine g_iload_n C dX1_blockMany_36 rfl 2 rfl ?_
        exact g_iret C hr hlk dX1_blockMany_37 (Nat.le_of_ble_eq_true rfl) (Nat.le_of_ble_eq_true rfl) rfl ⟨_, rfl, ⟨by rw [show i = c * r by omega]; rfl, fr, hln⟩⟩
      · refine g_iload_n C dX1_blockMany_15 rfl 2 rfl ?_
        refine g_aload_n C dX1_blockMany_16 rfl 1 rfl ?_
        refine g_iload_n C dX1_blockMany_17 rfl 3 rfl ?_
        refine g_ialdN C r1 (by omega) (by omega) dX1_blockMany_18 ?_
        have hbl : m_bl s c r i < 2 ^ 31 := Nat.lt_of_le_of_lt (m_bl_le s c r i) (by omega)
        refine g_topi (y := nI (m_bl s c r i)) (r2 i (by omega)) ?_
        refine g_iload_n C dX1_blockMany_19 rfl 3 rfl ?_
        refine g_icmp_neN (tgt := 27) C dX1_blockMany_20 (by decide) (by omega) (by omega) (fun c_20 => ?_) (fun c_20 => ?_)
        · refine g_iconst C dX1_blockMany_27 kc_0 ?_
          refine g_iaddN C dX1_blockMany_28 ?_
          refine g_istore_n (lv' := [(2, _), (0, _), (1, _), (3, _)]) C dX1_blockMany_29 rfl (by decide) rfl ?_
          refine g_iinc (lv' := [(3, _), (2, _), (0, _), (1, _)]) (t := 3) C dX1_blockMany_30 rfl (nI_1 _) (by decide) rfl ?_
          refine g_goto (tgt := 9) C dX1_blockMany_33 (by decide) ?_
          refine g_pick (lv' := [(0, _), (1, _), (2, _), (3, _)]) [2, 3, 1, 0] rfl ?_
          refine g_eq (lv' := [(0, .ref (ad 0)), (1, .ref n), (2, .int (nI (cnt (fun k => decide (m_bl s c r k = k)) (i + 1)))), (3, .int (nI (i + 1)))]) rfl (by rw [cnt_n (decide_eq_false c_20)]) rfl ?_
          exact ih (i + 1) (by omega) (by omega)
        · refine g_iconst C dX1_blockMany_23 kc_1 ?_
          refine g_goto (tgt := 28) C dX1_blockMany_24 (by decide) ?_
          refine g_iaddN C dX1_blockMany_28 ?_
          refine g_istore_n (lv' := [(2, _), (0, _), (1, _), (3, _)]) C dX1_blockMany_29 rfl (by decide) rfl ?_
          refine g_iinc (lv' := [(3, _), (2, _), (0, _), (1, _)]) (t := 3) C dX1_blockMany_30 rfl (nI_1 _) (by decide) rfl ?_
          refine g_goto (tgt := 9) C dX1_blockMany_33 (by decide) ?_
          refine g_pick (lv' := [(0, _), (1, _), (2, _), (3, _)]) [2, 3, 1, 0] rfl ?_
          refine g_eq (lv' := [(0, .ref (ad 0)), (1, .ref n), (2, .int (nI (cnt (fun k => decide (m_bl s c r k = k)) (i + 1)))), (3, .int (nI (i + 1)))]) rfl (by rw [cnt_s (decide_eq_true c_20)]) rfl ?_
          exact ih (i + 1) (by omega) (by omega)
  refine g_pick (lv' := [(0, _), (1, _), (2, _), (3, _)]) [3, 2, 1, 0] rfl ?_
  exact loop (c * r + 1) 0 (by omega) (by omega)
