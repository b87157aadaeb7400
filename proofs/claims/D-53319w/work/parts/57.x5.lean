theorem ok_X1_edgeAt : yX1_edgeAt.cls = "MapSheets$Library" ∧ yX1_edgeAt.cls ≠ "java/lang/invoke/MethodHandle" ∧ yX1_edgeAt.cls ≠ "java/lang/invoke/VarHandle" ∧ (parseMethodDescriptor yX1_edgeAt.desc).map (fun d => d.parameters.length) = some 2 := by decide +kernel
set_option maxHeartbeats 4000000 in
set_option maxRecDepth 100000 in
theorem met_X1_edgeAt {l : Launch} {D : va_G} {b0 n : Nat} {h : GH} {Z : Nat → Prop} {ad : Nat → Nat} {s : Nat → Int32} {c r : Nat} {k d : Nat} (B : LbAt D b0 h Z ad s c r) (I : MI s c r) (hk : k < c * r) (hd : d < 4) : gMet l yX1_edgeAt cX1_edgeAt 5 ((some (.object "MapSheets$Edge"))) 3 61 1 4 D b0 h n [.ref (ad 0), .int (nI k), .int (nI d)] (pQ (fun r' h' n' => ((∃ e, e < m_ed c r ∧ r' = some (ad (6 + e)) ∧ eaP c r k d e) ∨ (r' = none ∧ ∀ e, e < m_ed c r → ¬ eaP c r k d e)) ∧ (∀ q, q < n → h' q = h q) ∧ n < n')) := by
  refine gMet.of (lv := [(0, _), (1, _), (2, _)]) (by decide) (Nat.le_of_ble_eq_true rfl) rfl ?_
  intro p_ e_ U0 m_ args_ below_ meth_ co_ C hr hlk hnm
  have hI := m_ed_le I
  obtain ⟨I0, I1, I2, I3, I4, I5⟩ := id I
  obtain ⟨cp2, mm2, F2, L2, G2⟩ := B.l2
  refine g_none (fun hno => ?_)
  refine g_size C (fun hb0 => ?_)
  refine g_aload_n C dX1_edgeAt_0 rfl 0 rfl ?_
  refine g_get C in_X1 B.obj rfl 3 (by decide) q145 (fun _ hx => hx) rfl dX1_edgeAt_1 ?_
  refine g_V0R C (met_J2_iterator L2.1) (cwV 0 C.2.2.2.2.1 (lw_V q427 q428 q429 q67 q430) rfl rfl rfl ok_J2_iterator ⟨(Nat.le_of_ble_eq_true rfl), (Nat.le_of_ble_eq_true rfl)⟩) L2.1 rfl (Nat.le_of_ble_eq_true rfl) dX1_edgeAt_4 ⟨(Nat.le_of_ble_eq_true rfl), (Nat.le_of_ble_eq_true rfl)⟩ (fun r_4 h_4 n_4 hp_4 hn_4 => ?_)
  obtain ⟨rfl, rfl, rfl⟩ := hp_4
  refine g_astore_n (lv' := [(3, _), (0, _), (1, _), (2, _)]) C dX1_edgeAt_7 rfl (by decide) rfl ?_
  have loop : ∀ (N_ i : Nat) (h1 : GH) (n1 : Nat) (lr : Int32), i ≤ m_ed c r → m_ed c r < i + N_ → h1 n = gO 11 [.int (nI i), .int lr, .int mm2, .ref (ad 2)] → (∀ q, q < n → h1 q = h q) → n < n1 → (∀ e, e < i → ¬ eaP c r k d e) → gW p_ l e_ (headSpec (ws_ yX1_edgeAt cX1_edgeAt 5 ((some (.object "MapSheets$Edge")))) (gRm 3 61 1 4)).room U0 m_ args_ below_ meth_ co_ (MQ below_ (gQc D b0 (pQ (fun r' h' n' => ((∃ e, e < m_ed c r ∧ r' = some (ad (6 + e)) ∧ eaP c r k d e) ∨ (r' = none ∧ ∀ e, e < m_ed c r → ¬ eaP c r k d e)) ∧ (∀ q, q < n → h' q = h q) ∧ n < n'))) args_ U0 1 4 (gA b0)) D b0 5 h1 n1 1 4 8 [(0, .ref (ad 0)), (1, .int (nI k)), (2, .int (nI d)), (3, .ref n)] [] := by
    intro N_
    induction N_ with
    | zero => intro i h1 n1 lr h1_ h2_; exact absurd h2_ (by omega)
    | succ N_ ih =>
      intro i h1 n1 lr h1_ h2_ hT fr hn1 hno9
      refine g_none (fun hno1 => ?_)
      refine g_size C (fun hb1 => ?_)
      have L2k : LiAt D b0 h1 (ad 2) (ad 5) cp2 (m_ed c r) mm2 F2 := L2.kept (fr _ (B.lt hno (Or.inl (by omega)))) (fr _ (B.lt hno (Or.inl (by omega))))
      refine g_aload_n C dX1_edgeAt_8 rfl 3 rfl ?_
      refine g_F0I C (met_J11_hasNext hT L2k.1 (by omega) (by omega)) (va_cwF 0 C.2.2.2.2.1 (lw_app (lw_l4 q451 q455 q457 q80) (lw_meth q459)) rfl rfl rfl C.2.2.2.2.2.1.2.2.2.2.2.1 okF_hasNext ⟨(Nat.le_of_ble_eq_true rfl), (Nat.le_of_ble_eq_true rfl)⟩) hT rfl (Nat.le_of_ble_eq_true rfl) dX1_edgeAt_9 ⟨(Nat.le_of_ble_eq_true rfl), (Nat.le_of_ble_eq_true rfl)⟩ (fun r_9 h_9 n_9 hp_9 hn_9 => ?_)
      obtain ⟨rfl, rfl, rfl⟩ := hp_9
      refine g_if_eqB (tgt := 53) C dX1_edgeAt_14 (by decide) (fun c_14 => ?_) (fun c_14 => ?_)
      · refine g_null C dX1_edgeAt_53 ?_
        exact g_aret C hr hlk dX1_edgeAt_54 (Or.inl ⟨_, rfl⟩) (Or.inl rfl) (Nat.le_of_ble_eq_true rfl) (Nat.le_of_ble_eq_true rfl) ⟨none, rfl, ⟨Or.inr ⟨rfl, fun e he => hno9 e (by have := of_decide_eq_false c_14; omega)⟩, fr, hn1⟩⟩
      · have hi := of_decide_eq_true c_14
        refine g_aload_n C dX1_edgeAt_17 rfl 3 rfl ?_
        refine g_F0R C (met_J11_next hT hb0 L2k.1 L2k.2.1 hi L2k.2.2.1 L2k.2.2.2.1 (G2 i hi)) (va_cwF 0 C.2.2.2.2.1 (lw_app (lw_l4 q461 q464 q466 q80) (lw_meth q468)) rfl rfl rfl C.2.2.2.2.2.1.2.2.2.2.2.2.1 okF_next ⟨(Nat.le_of_ble_eq_true rfl), (Nat.le_of_ble_eq_true rfl)⟩) hT rfl (Nat.le_of_ble_eq_true rfl) dX1_edgeAt_18 ⟨(Nat.le_of_ble_eq_true rfl), (Nat.le_of_ble_eq_true rfl)⟩ (fun r_18 h_18 n_18 hp_18 hn_18 => ?_)
        obtain ⟨rfl, rfl, rfl⟩ := hp_18
        refine g_opq (fun h2 e2 o2 => ?_)
        have fr2 : ∀ q, q < n → h2 q = h q := fun q hq => (o2 q (by omega)).trans (fr q hq)
        have B2 : LbAt D b0 h2 Z ad s c r := B.kept (fun j hj => fr2 _ (B.lt hno hj))
        refine g_castS C q320 (B2.ed i hi) rfl dX1_edgeAt_23 ?_
        refine g_astore (lv' := [(4, _), (0, _), (1, _), (2, _), (3, _)]) C dX1_edgeAt_26 (by decide) rfl ?_
        refine g_aload C dX1_edgeAt_28 0 rfl ?_
        refine g_iload_n C dX1_edgeAt_30 rfl 2 rfl ?_
        refine g_V1I C (met_X3_has (B2.ed i hi)) (cwV 1 C.2.2.2.2.1 (lw_V q533 q534 q535 q78 q536) rfl rfl rfl ok_X3_has ⟨(Nat.le_of_ble_eq_true rfl), (Nat.le_of_ble_eq_true rfl)⟩) (B2.ed i hi) rfl (Nat.le_of_ble_eq_true rfl) dX1_edgeAt_31 ⟨(Nat.le_of_ble_eq_true rfl), (Nat.le_of_ble_eq_true rfl)⟩ (fun r_31 h_31 n_31 hp_31 hn_31 => ?_)
        obtain ⟨rfl, rfl, rfl⟩ := hp_31
        refine g_if_eqB (tgt := 50) C dX1_edgeAt_34 (by decide) (fun c_34 => ?_) (fun c_34 => ?_)
        · change incE c r (nI k) i = _ at c_34
          refine g_goto (tgt := 8) C dX1_edgeAt_50 (by decide) ?_
          refine g_pick (lv' := [(0, _), (1, _), (2, _), (3, _)]) [1, 2, 3, 4] rfl ?_
          exact ih (i + 1) h2 n1 (nI i) (by omega) (by omega) e2 fr2 hn1 (fun e he => (Nat.lt_or_ge e i).elim (hno9 e) (fun q => by rw [show e = i by omega]; exact fun z => absurd z.1 (by rw [c_34]; decide)))
        · change incE c r (nI k) i = _ at c_34
          refine g_aload C dX1_edgeAt_37 0 rfl ?_
          refine g_iload_n C dX1_edgeAt_39 rfl 2 rfl ?_
          have hfs := m_fs_lt I hi
          have hsd := m_sd_lt c r i
          refine g_V1I C (met_X3_sideOf (B2.ed i hi) (by omega) (by omega) (by omega)) (cwV 1 C.2.2.2.2.1 (lw_V q550 q551 q552 q78 q553) rfl rfl rfl ok_X3_sideOf ⟨(Nat.le_of_ble_eq_true rfl), (Nat.le_of_ble_eq_true rfl)⟩) (B2.ed i hi) rfl (Nat.le_of_ble_eq_true rfl) dX1_edgeAt_40 ⟨(Nat.le_of_ble_eq_true rfl), (Nat.le_of_ble_eq_true rfl)⟩ (fun r_40 h_40 n_40 hp_40 hn_40 => ?_)
          obtain ⟨rfl, rfl, rfl⟩ := hp_40
          refine g_iload_n C dX1_edgeAt_43 rfl 3 rfl ?_
          have hes := eS_lt c r i k
          change gW _ _ _ _ _ _ _ _ _ _ _ _ _ _ _ _ _ _ _ _ (.int _ :: .int (nI (eS c r i k)) :: _)
          refine g_icmp_neN (tgt := 50) C dX1_edgeAt_44 (by decide) (by omega) (by omega) (fun c_44 => ?_) (fun c_44 => ?_)
          · refine g_goto (tgt := 8) C dX1_edgeAt_50 (by decide) ?_
            refine g_pick (lv' := [(0, _), (1, _), (2, _), (3, _)]) [1, 2, 3, 4] rfl ?_
            exact ih (i + 1) h2 n1 (nI i) (by omega) (by omega) e2 fr2 hn1 (fun e he => (Nat.lt_or_ge e i).elim (hno9 e) (fun q => by rw [show e = i by omega]; exact fun z => c_44 z.2))
          · refine g_aload C dX1_edgeAt_47 0 rfl ?_
            exact g_aret C hr hlk dX1_edgeAt_49 (Or.inl ⟨_, rfl⟩) (Or.inr ⟨_, rfl⟩) (Nat.le_of_ble_eq_true rfl) (Nat.le_of_ble_eq_true rfl) ⟨some _, rfl, ⟨Or.inl ⟨i, hi, rfl, c_34, c_44⟩, fr2, hn1⟩⟩
  refine g_pick (lv' := [(0, _), (1, _), (2, _), (3, _)]) [1, 2, 3, 0] rfl ?_
  exact loop (m_ed c r + 1) 0 _ (n + 1) (-1) (by omega) (by omega) (va_up_self _ _ _) (fun q hq => va_up_ne _ _ (by omega)) (by omega) (fun e he => absurd he (by omega))
theorem ok_X1_letGo : yX1_letGo.cls = "MapSheets$Library" ∧ yX1_letGo.cls ≠ "java/lang/invoke/MethodHandle" ∧ yX1_letGo.cls ≠ "java/lang/invoke/VarHandle" ∧ (parseMethodDescriptor yX1_letGo.desc).map (fun d => d.parameters.length) = some 1 := by decide +kernel
set_option maxHeartbeats 4000000 in
set_option maxRecDepth 100000 in
theorem met_X1_letGo {l : Launch} {D : va_G} {b0 n : Nat} {h : GH} {Z : Nat → Prop} {ad : Nat → Nat} {s : Nat → Int32} {c r : Nat} {x : Int32} (B : LbAt D b0 h Z ad s c r) (I : MI s c r) (V : MV s) (Gg : MG s) (z0 : h (D.1 201) = gP D 102 0 (fun _ => none)) : gMet l yX1_letGo cX1_letGo 4 (none) 7 154 721 1984 D b0 h n [.ref (ad 0), .int x] (pV (fun h' n' => LbAt D b0 h' Z ad (xl s c r x (m_ed c r)) c r ∧ (∀ q, q < n → (∀ e, e < m_ed c r → q ≠ ad (6 + e)) → h' q = h q) ∧ n < n')) := by
  refine gMet.of (lv := [(0, _), (1, _)]) (by decide) (Nat.le_of_ble_eq_true rfl) rfl ?_
  intro p_ e_ U0 m_ args_ below_ meth_ co_ C hr hlk hnm
  have hI := m_ed_le I
  obtain ⟨I0, I1, I2, I3, I4, I5⟩ := id I
  obtain ⟨cp2, mm2, F2, L2, G2⟩ := B.l2
  refine g_none (fun hno => ?_)
  refine g_size C (fun hb0 => ?_)
  refine g_lt z0 (fun hlz => ?_)
  refine g_aload_n C dX1_letGo_0 rfl 0 rfl ?_
  refine g_get C in_X1 B.obj rfl 3 (by decide) q145 (fun _ hx => hx) rfl dX1_letGo_1 ?_
  refine g_V0R C (met_J2_iterator L2.1) (cwV 0 C.2.2.2.2.1 (lw_V q427 q428 q429 q67 q430) rfl rfl rfl ok_J2_iterator ⟨(Nat.le_of_ble_eq_true rfl), (Nat.le_of_ble_eq_true rfl)⟩) L2.1 rfl (Nat.le_of_ble_eq_true rfl) dX1_letGo_4 ⟨(by show _ ≤ 721; omega), (by show _ ≤ 1984; omega)⟩ (fun r_4 h_4 n_4 hp_4 hn_4 => ?_)
  obtain ⟨rfl, rfl, rfl⟩ := hp_4
  refine g_astore_n (lv' := [(2, _), (0, _), (1, _)]) C dX1_letGo_7 rfl (by decide) rfl ?_
  have loop : ∀ (N_ i : Nat) (h1 : GH) (n1 : Nat) (lr : Int32), i ≤ m_ed c r → m_ed c r < i + N_ → h1 n = gO 11 [.int (nI i), .int lr, .int mm2, .ref (ad 2)] → (∀ q, q < n → (∀ e, e < m_ed c r → q ≠ ad (6 + e)) → h1 q = h q) → n < n1 → LbAt D b0 h1 Z ad (xl s c r x i) c r → gW p_ l e_ (headSpec (ws_ yX1_letGo cX1_letGo 4 (none)) (gRm 7 154 721 1984)).room U0 m_ args_ below_ meth_ co_ (MQ below_ (gQc D b0 (pV (fun h' n' => LbAt D b0 h' Z ad (xl s c r x (m_ed c r)) c r ∧ (∀ q, q < n → (∀ e, e < m_ed c r → q ≠ ad (6 + e)) → h' q = h q) ∧ n < n'))) args_ U0 721 1984 (gA b0)) D b0 4 h1 n1 (1 + 12 * i) (4 + 33 * i) 8 [(0, .ref (ad 0)), (1, .int x), (2, .ref n)] [] := by
    intro N_
    induction N_ with
    | zero => intro i h1 n1 lr h1_ h2_; exact absurd h2_ (by omega)
    | succ N_ ih =>
      intro i h1 n1 lr h1_ h2_ hT fr hn1 B1
      refine g_none (fun hno1 => ?_)
      refine g_size C (fun hb1 => ?_)
      have nE : ∀ j, j < 6 → ∀ e, e < m_ed c r → ad j ≠ ad (6 + e) := fun j hj e he => Ne.symm (B.ne_ (Or.inr (Or.inl (by omega))) (Or.inl hj) (by omega) (by omega) (by omega))
      have L2k : LiAt D b0 h1 (ad 2) (ad 5) cp2 (m_ed c r) mm2 F2 := L2.kept (fr _ (B.lt hno (Or.inl (by omega))) (nE 2 (by omega))) (fr _ (B.lt hno (Or.inl (by omega))) (nE 5 (by omega)))
      have z1 : h1 (D.1 201) = gP D 102 0 (fun _ => none) := (fr _ hlz (fun e he => Ne.symm (B.hD _ (B.ge (6 + e) (Or.inr (Or.inl (by omega))) (by omega) (by omega))))).trans z0
      have I1 : MI (xl s c r x i) c r := I.congr (xl_hi (by omega)) (xl_hi (by omega))
      have V1 : MV (xl s c r x i) := V.congr (fun k hk => xl_hi (by omega))
      refine g_aload_n C dX1_letGo_8 rfl 2 rfl ?_
      refine g_F0I C (met_J11_hasNext hT L2k.1 (by omega) (by omega)) (va_cwF 0 C.2.2.2.2.1 (lw_app (lw_l4 q451 q455 q457 q80) (lw_meth q459)) rfl rfl rfl C.2.2.2.2.2.1.2.2.2.2.2.1 okF_hasNext ⟨(Nat.le_of_ble_eq_true rfl), (Nat.le_of_ble_eq_true rfl)⟩) hT rfl (Nat.le_of_ble_eq_true rfl) dX1_letGo_9 ⟨(by show _ ≤ 721; omega), (by show _ ≤ 1984; omega)⟩ (fun r_9 h_9 n_9 hp_9 hn_9 => ?_)
      obtain ⟨rfl, rfl, rfl⟩ := hp_9
      refine g_if_eqB (tgt := 60) C dX1_letGo_14 (by decide) (fun c_14 => ?_) (fun c_14 => ?_)
      · exact g_vret C hr hlk dX1_letGo_60 (by omega) (by omega) ⟨rfl, (by rw [show i = m_ed c r by have := of_decide_eq_false c_14; omega] at B1; exact B1), fr, hn1⟩
      · have hi := of_decide_eq_true c_14
        refine g_aload_n C dX1_letGo_17 rfl 2 rfl ?_
        refine g_F0R C (met_J11_next hT hb0 L2k.1 L2k.2.1 hi L2k.2.2.1 L2k.2.2.2.1 (G2 i hi)) (va_cwF 0 C.2.2.2.2.1 (lw_app (lw_l4 q461 q464 q466 q80) (lw_meth q468)) rfl rfl rfl C.2.2.2.2.2.1.2.2.2.2.2.2.1 okF_next ⟨(Nat.le_of_ble_eq_true rfl), (Nat.le_of_ble_eq_true rfl)⟩) hT rfl (Nat.le_of_ble_eq_true rfl) dX1_letGo_18 ⟨(by show _ ≤ 721; omega), (by show _ ≤ 1984; omega)⟩ (fun r_18 h_18 n_18 hp_18 hn_18 => ?_)
        obtain ⟨rfl, rfl, rfl⟩ := hp_18
        refine g_opq (fun h2 e2 o2 => ?_)
        have B2 : LbAt D b0 h2 Z ad (xl s c r x i) c r := B1.kept (fun j hj => o2 _ (Nat.ne_of_lt (B.lt hno hj)))
        have z2 : h2 (D.1 201) = gP D 102 0 (fun _ => none) := (o2 _ (by omega)).trans z1
        refine g_castS C q320 (B2.ed i hi) rfl dX1_letGo_23 ?_
        refine g_astore_n (lv' := [(3, _), (0, _), (1, _), (2, _)]) C dX1_letGo_26 rfl (by decide) rfl ?_
        refine g_aload_n C dX1_letGo_27 rfl 0 rfl ?_
        refine g_dup C dX1_letGo_28 rfl ?_
        refine g_getN C in_X3 (B2.ed i hi) rfl 3 (by decide) q334 (fun _ hx => hx) rfl dX1_letGo_29 ?_
        refine g_aload_n C dX1_letGo_32 rfl 0 rfl ?_
        refine g_iload_n C dX1_letGo_33 rfl 2 rfl ?_
        refine g_V1I C (met_X3_has (B2.ed i hi)) (cwV 1 C.2.2.2.2.1 (lw_V q533 q534 q535 q78 q536) rfl rfl rfl ok_X3_has ⟨(Nat.le_of_ble_eq_true rfl), (Nat.le_of_ble_eq_true rfl)⟩) (B2.ed i hi) rfl (Nat.le_of_ble_eq_true rfl) dX1_letGo_34 ⟨(by show _ ≤ 721; omega), (by show _ ≤ 1984; omega)⟩ (fun r_34 h_34 n_34 hp_34 hn_34 => ?_)
        obtain ⟨rfl, rfl, rfl⟩ := hp_34
        refine g_if_eqB (tgt := 48) C dX1_letGo_37 (by decide) (fun c_37 => ?_) (fun c_37 => ?_)
        · change incE c r x i = _ at c_37
          refine g_iconst C dX1_letGo_48 kc_1 ?_
          refine g_goto (tgt := 53) C dX1_letGo_49 (by decide) ?_
          refine g_iand C dX1_letGo_53 ?_
          refine g_topi (y := s (4 + i)) (by rw [xl_hi (Or.inr (Nat.le_refl _))]; exact Gg.and1 (by omega)) ?_
          refine g_putN C in_X3 tyX3 tyX3_ok nmX3 (B2.ed i hi) (B.ge (6 + i) (Or.inr (Or.inl (by omega))) (by omega) (by omega)) rfl 3 (by decide) q334 (fun _ hx => hx) rfl rfl (Gg.nar (by omega)) (Gg.fit (by omega)) (Nat.le_of_ble_eq_true rfl) rfl dX1_letGo_54 ?_
          refine g_opq (fun h54 e54 o54 => ?_)
          refine g_goto (tgt := 8) C dX1_letGo_57 (by decide) ?_
          refine g_pick (lv' := [(0, _), (1, _), (2, _)]) [1, 2, 3] rfl ?_
          have hlE := B.lt hno (i := 6 + i) (Or.inr (Or.inl (by omega)))
          have B4 := B2.mark hi (by omega) e54 o54
          rw [xl_n (Or.inl c_37)] at B4
          refine g_widen (k1 := 1 + 12 * (i + 1)) (k2 := 4 + 33 * (i + 1)) (by omega) (by omega) ?_
          exact ih (i + 1) h54 n1 (nI i) (by omega) (by omega) ((o54 _ (by omega)).trans e2) (fun q hq hq2 => (o54 q (hq2 i hi)).trans ((o2 q (by omega)).trans (fr q hq hq2))) hn1 B4
        · change incE c r x i = _ at c_37
          refine g_aload_n C dX1_letGo_40 rfl 1 rfl ?_
          refine g_aload_n C dX1_letGo_41 rfl 0 rfl ?_
          refine g_V1I C (met_X1_isClean B2 I1 V1 z2 hi) (cwV 1 C.2.2.2.2.1 (lw_V q537 q538 q539 q64 q540) rfl rfl rfl ok_X1_isClean ⟨(Nat.le_of_ble_eq_true rfl), (Nat.le_of_ble_eq_true rfl)⟩) B2.obj rfl (Nat.le_of_ble_eq_true rfl) dX1_letGo_42 ⟨(by show _ ≤ 721; omega), (by show _ ≤ 1984; omega)⟩ (fun r_42 h_42 n_42 hp_42 hn_42 => ?_)
          obtain ⟨rfl, fr_42, hl_42⟩ := hp_42
          have B3 : LbAt D b0 h_42 Z ad (xl s c r x i) c r := B2.kept (fun j hj => fr_42 _ (by have := B.lt hno hj; omega))
          refine g_if_eqB (tgt := 52) C dX1_letGo_45 (by decide) (fun c_45 => ?_) (fun c_45 => ?_)
          · rw [xl_q (by omega)] at c_45
            refine g_iconst C dX1_letGo_52 kc_0 ?_
            refine g_iand C dX1_letGo_53 ?_
            refine g_topi (y := nI 0) (by rw [xl_hi (Or.inr (Nat.le_refl _))]; exact Gg.and0 (by omega)) ?_
            refine g_putN C in_X3 tyX3 tyX3_ok nmX3 (B3.ed i hi) (B.ge (6 + i) (Or.inr (Or.inl (by omega))) (by omega) (by omega)) rfl 3 (by decide) q334 (fun _ hx => hx) rfl rfl rfl rfl (Nat.le_of_ble_eq_true rfl) rfl dX1_letGo_54 ?_
            refine g_opq (fun h54 e54 o54 => ?_)
            refine g_goto (tgt := 8) C dX1_letGo_57 (by decide) ?_
            refine g_pick (lv' := [(0, _), (1, _), (2, _)]) [1, 2, 3] rfl ?_
            have hlE := B.lt hno (i := 6 + i) (Or.inr (Or.inl (by omega)))
            have B4 := B3.mark hi (by omega) e54 o54
            rw [xl_c c_37 (of_decide_eq_false c_45)] at B4
            refine g_widen (k1 := 1 + 12 * (i + 1)) (k2 := 4 + 33 * (i + 1)) (by omega) (by omega) ?_
            exact ih (i + 1) h54 n_42 (nI i) (by omega) (by omega) ((o54 _ (by omega)).trans ((fr_42 _ (by omega)).trans e2)) (fun q hq hq2 => (o54 q (hq2 i hi)).trans ((fr_42 q (by omega)).trans ((o2 q (by omega)).trans (fr q hq hq2)))) (by omega) B4
          · rw [xl_q (by omega)] at c_45
            refine g_iconst C dX1_letGo_48 kc_1 ?_
            refine g_goto (tgt := 53) C dX1_letGo_49 (by decide) ?_
            refine g_iand C dX1_letGo_53 ?_
            refine g_topi (y := s (4 + i)) (by rw [xl_hi (Or.inr (Nat.le_refl _))]; exact Gg.and1 (by omega)) ?_
            refine g_putN C in_X3 tyX3 tyX3_ok nmX3 (B3.ed i hi) (B.ge (6 + i) (Or.inr (Or.inl (by omega))) (by omega) (by omega)) rfl 3 (by decide) q334 (fun _ hx => hx) rfl rfl (Gg.nar (by omega)) (Gg.fit (by omega)) (Nat.le_of_ble_eq_true rfl) rfl dX1_letGo_54 ?_
            refine g_opq (fun h54 e54 o54 => ?_)
            refine g_goto (tgt := 8) C dX1_letGo_57 (by decide) ?_
            refine g_pick (lv' := [(0, _), (1, _), (2, _)]) [1, 2, 3] rfl ?_
            have hlE := B.lt hno (i := 6 + i) (Or.inr (Or.inl (by omega)))
            have B4 := B3.mark hi (by omega) e54 o54
            rw [xl_n (Or.inr (of_decide_eq_true c_45))] at B4
            refine g_widen (k1 := 1 + 12 * (i + 1)) (k2 := 4 + 33 * (i + 1)) (by omega) (by omega) ?_
            exact ih (i + 1) h54 n_42 (nI i) (by omega) (by omega) ((o54 _ (by omega)).trans ((fr_42 _ (by omega)).trans e2)) (fun q hq hq2 => (o54 q (hq2 i hi)).trans ((fr_42 q (by omega)).trans ((o2 q (by omega)).trans (fr q hq hq2)))) (by omega) B4
  refine g_pick (lv' := [(0, _), (1, _), (2, _)]) [1, 2, 0] rfl ?_
  exact loop (m_ed c r + 1) 0 _ (n + 1) (-1) (by omega) (by omega) (va_up_self _ _ _) (fun q hq _ => va_up_ne _ _ (by omega)) (by omega) (by rw [xl_0]; exact B.kept (fun j hj => va_up_ne _ _ (Nat.ne_of_lt (B.lt hno hj))))
