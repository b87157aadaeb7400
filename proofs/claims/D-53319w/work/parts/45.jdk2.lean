theorem ok_J10_copyOf_2 : yJ10_copyOf_2.cls ≠ "java/lang/invoke/MethodHandle" ∧ yJ10_copyOf_2.cls ≠ "java/lang/invoke/VarHandle" ∧ (parseMethodDescriptor yJ10_copyOf_2.desc).map (fun d => d.parameters.length) = some 3 := by decide +kernel
set_option maxHeartbeats 4000000 in
set_option maxRecDepth 100000 in
theorem met_J10_copyOf_2 {l : Launch} {D : va_G} {b0 n : Nat} {h : GH} {arr cap m : Nat} {F : Nat → Option Nat} (hR : h arr = gP D 102 cap F) (hel : ∀ i, i < cap → ∀ v, F i = some v → gObj h v) (hm : cap ≤ m) (hm2 : m ≤ 110) : gMet l yJ10_copyOf_2 cJ10_copyOf_2 4 ((some (.array (.object "java/lang/Object")))) 1 60 1 110 D b0 h n [.ref arr, .int (nI m), .ref (D.1 200)] (pR (fun r' h' n' => n = r' ∧ (va_up h n (gP D 102 m (va_cpy F (fun _ => none) 0 0 cap))) = h' ∧ (n + 1) = n')) := by
  refine gMet.of (lv := [(0, _), (1, _), (2, _)]) (by decide) (Nat.le_of_ble_eq_true rfl) rfl ?_
  intro p_ e_ U0 m_ args_ below_ meth_ co_ C hr hlk hnm
  refine g_lt hR (fun hlt => ?_)
  refine g_size C (fun hb0 => ?_)
  refine g_none (fun hno => ?_)
  refine g_aload_n C dJ10_copyOf_2_0 rfl 2 rfl ?_
  refine g_ldcM C q306 dJ10_copyOf_2_1 ?_
  refine g_acmp_ne (rx := some (D.1 200)) (ry := some (D.1 200)) (tgt := 13) C dJ10_copyOf_2_3 (by decide) (fun c_3 => absurd rfl c_3) (fun c_3 => ?_)
  refine g_iload_n C dJ10_copyOf_2_6 rfl 1 rfl ?_
  refine g_newO C q307 (by omega) (by show _ ≤ 1; omega) (by show _ ≤ 110; omega) dJ10_copyOf_2_7 ?_
  refine g_goto (tgt := 24) C dJ10_copyOf_2_10 (by decide) ?_
  refine g_astore_n (lv' := [(3, _), (0, _), (1, _), (2, _)]) C dJ10_copyOf_2_24 rfl (by decide) rfl ?_
  refine g_aload_n C dJ10_copyOf_2_25 rfl 1 rfl ?_
  refine g_iconst C dJ10_copyOf_2_26 kc_0 ?_
  refine g_aload_n C dJ10_copyOf_2_27 rfl 0 rfl ?_
  refine g_iconst C dJ10_copyOf_2_28 kc_0 ?_
  refine g_aload_n C dJ10_copyOf_2_29 rfl 1 rfl ?_
  refine g_alen (t0 := 2) (v := nI cap) C ((va_up_ne _ _ (by omega)).trans hR) rfl rfl dJ10_copyOf_2_30 ?_
  refine g_iload_n C dJ10_copyOf_2_31 rfl 2 rfl ?_
  refine g_S2I C (met_J9_min (by omega) (by omega)) (va_cwS 2 C.2.2.2.2.1 (lw_S q308 q309 q75 q310) rfl rfl rfl ok_J9_min ⟨(Nat.le_of_ble_eq_true rfl), (Nat.le_of_ble_eq_true rfl)⟩) (Nat.le_of_ble_eq_true rfl) dJ10_copyOf_2_32 ⟨(by show _ ≤ 1; omega), (by show _ ≤ 110; omega)⟩ (fun r_32 h_32 n_32 hp_32 hn_32 => ?_)
  obtain ⟨rfl, rfl, rfl⟩ := hp_32
  refine g_topi (y := nI cap) (by rw [Nat.min_eq_left (by omega)]) ?_
  refine g_copyO C q311 ((va_up_ne _ _ (by omega)).trans hR) (va_up_self _ _ _) hb0 (by omega) (by omega) (by omega) (by omega) (fun i hi v hv => (hel i hi v (by rwa [Nat.zero_add] at hv)).kept (va_up_ne _ _ (gObj.ne (hel i hi v (by rwa [Nat.zero_add] at hv)) (hno n (Nat.le_refl n))))) (va_uu _ _ _ _) (Nat.le_of_ble_eq_true rfl) (Nat.le_of_ble_eq_true rfl) dJ10_copyOf_2_35 ?_
  refine g_aload_n C dJ10_copyOf_2_38 rfl 0 rfl ?_
  exact g_aret C hr hlk dJ10_copyOf_2_39 (Or.inr ⟨_, rfl⟩) (Or.inr ⟨_, rfl⟩) (by omega) (by omega) ⟨_, rfl, ⟨rfl, rfl, rfl⟩⟩
theorem ok_J10_copyOf : yJ10_copyOf.cls ≠ "java/lang/invoke/MethodHandle" ∧ yJ10_copyOf.cls ≠ "java/lang/invoke/VarHandle" ∧ (parseMethodDescriptor yJ10_copyOf.desc).map (fun d => d.parameters.length) = some 2 := by decide +kernel
set_option maxHeartbeats 4000000 in
set_option maxRecDepth 100000 in
theorem met_J10_copyOf {l : Launch} {D : va_G} {b0 n : Nat} {h : GH} {arr cap m : Nat} {F : Nat → Option Nat} (hR : h arr = gP D 102 cap F) (hel : ∀ i, i < cap → ∀ v, F i = some v → gObj h v) (hm : cap ≤ m) (hm2 : m ≤ 110) : gMet l yJ10_copyOf cJ10_copyOf 2 ((some (.array (.object "java/lang/Object")))) 2 83 1 110 D b0 h n [.ref arr, .int (nI m)] (pR (fun r' h' n' => n = r' ∧ (va_up h n (gP D 102 m (va_cpy F (fun _ => none) 0 0 cap))) = h' ∧ (n + 1) = n')) := by
  refine gMet.of (lv := [(0, _), (1, _)]) (by decide) (Nat.le_of_ble_eq_true rfl) rfl ?_
  intro p_ e_ U0 m_ args_ below_ meth_ co_ C hr hlk hnm
  refine g_aload_n C dJ10_copyOf_0 rfl 0 rfl ?_
  refine g_iload_n C dJ10_copyOf_1 rfl 1 rfl ?_
  refine g_aload_n C dJ10_copyOf_2 rfl 0 rfl ?_
  refine g_getC C q285 hR (Nat.le_of_ble_eq_true rfl) (Nat.le_of_ble_eq_true rfl) dJ10_copyOf_3 ?_
  refine g_S3R C (met_J10_copyOf_2 hR hel (by omega) (by omega)) (va_cwS 3 C.2.2.2.2.1 (lw_S q303 q304 q76 q305) rfl rfl rfl ok_J10_copyOf_2 ⟨(Nat.le_of_ble_eq_true rfl), (Nat.le_of_ble_eq_true rfl)⟩) (Nat.le_of_ble_eq_true rfl) dJ10_copyOf_6 ⟨(Nat.le_of_ble_eq_true rfl), (Nat.le_of_ble_eq_true rfl)⟩ (fun r_6 h_6 n_6 hp_6 hn_6 => ?_)
  obtain ⟨rfl, rfl, rfl⟩ := hp_6
  exact g_aret C hr hlk dJ10_copyOf_9 (Or.inr ⟨_, rfl⟩) (Or.inr ⟨_, rfl⟩) (Nat.le_of_ble_eq_true rfl) (Nat.le_of_ble_eq_true rfl) ⟨_, rfl, ⟨rfl, rfl, rfl⟩⟩
/-- a list at a: its row of Objects at arr, with room for cap; it holds sz -/
def LiAt (D : va_G) (b0 : Nat) (h : GH) (a arr cap sz : Nat) (m : Int32) (F : Nat → Option Nat) : Prop :=
  h a = gO 7 [.int m, .ref arr, .int (nI sz)] ∧ h arr = gP D 102 cap F ∧ sz ≤ cap ∧ cap ≤ 110 ∧ (cap = 0 ∧ arr = D.1 201 ∨ 0 < cap ∧ b0 ≤ arr)
theorem LiAt.ne {D : va_G} {b0 : Nat} {h : GH} {a arr cap sz : Nat} {m : Int32} {F : Nat → Option Nat} (L : LiAt D b0 h a arr cap sz m F) : arr ≠ a := by
  intro e
  have h1 := L.1
  rw [← e, L.2.1] at h1
  cases h1
theorem LiAt.kept {D : va_G} {b0 : Nat} {h h' : GH} {a arr cap sz : Nat} {m : Int32} {F : Nat → Option Nat} (L : LiAt D b0 h a arr cap sz m F) (h1 : h' a = h a) (h2 : h' arr = h arr) : LiAt D b0 h' a arr cap sz m F :=
  ⟨h1.trans L.1, h2.trans L.2.1, L.2.2⟩
/-- behind an add -/
def AddP (D : va_G) (b0 : Nat) (h : GH) (n a arr cap sz : Nat) (m : Int32) (F : Nat → Option Nat) (v : Nat) (h' : GH) (n' : Nat) : Prop :=
  ∃ (arr' cap' : Nat) (F' : Nat → Option Nat), LiAt D b0 h' a arr' cap' (sz + 1) (m + 1) F' ∧ (∀ i, i < sz → F' i = F i) ∧ F' sz = some v ∧ (arr' = arr ∧ cap' = cap ∧ n' = n ∨ arr' = n ∧ n' = n + 1 ∧ (cap = 0 → cap' = 10)) ∧ ∀ q, q ≠ a → q ≠ arr' → h' q = h q
/-- behind an add of which it is known where the row lies -/
def AddX (D : va_G) (b0 : Nat) (h : GH) (a arr' cap' sz : Nat) (m : Int32) (F : Nat → Option Nat) (v n1 : Nat) (h' : GH) (n' : Nat) : Prop :=
  ∃ F' : Nat → Option Nat, LiAt D b0 h' a arr' cap' (sz + 1) (m + 1) F' ∧ (∀ i, i < sz → F' i = F i) ∧ F' sz = some v ∧ n' = n1 ∧ ∀ q, q ≠ a → q ≠ arr' → h' q = h q
theorem ok_J2_grow_2 : yJ2_grow_2.cls = "java/util/ArrayList" ∧ yJ2_grow_2.cls ≠ "java/lang/invoke/MethodHandle" ∧ yJ2_grow_2.cls ≠ "java/lang/invoke/VarHandle" ∧ (parseMethodDescriptor yJ2_grow_2.desc).map (fun d => d.parameters.length) = some 1 := by decide +kernel
set_option maxHeartbeats 4000000 in
set_option maxRecDepth 100000 in
theorem met_J2_grow_2_E {l : Launch} {D : va_G} {b0 n : Nat} {h : GH} {a arr cap sz : Nat} {m : Int32} {F : Nat → Option Nat} {k : Nat} (L : LiAt D b0 h a arr cap sz m F) (ha : b0 ≤ a) (hk : k = cap + 1) (h0 : cap = 0) : gMet l yJ2_grow_2 cJ2_grow_2 4 ((some (.array (.object "java/lang/Object")))) 1 21 1 10 D b0 h n [.ref a, .int (nI k)] (pR (fun r' h' n' => n = r' ∧ n + 1 = n' ∧ h' a = gO 7 [.int m, .ref n, .int (nI sz)] ∧ (∃ cap' F', h' n = gP D 102 cap' F' ∧ cap < cap' ∧ cap' ≤ 110 ∧ (cap = 0 → cap' = 10) ∧ ∀ i, i < cap → F' i = F i) ∧ ∀ q, q ≠ a → q ≠ n → h' q = h q)) := by
  refine gMet.of (lv := [(0, _), (1, _)]) (by decide) (Nat.le_of_ble_eq_true rfl) rfl ?_
  intro p_ e_ U0 m_ args_ below_ meth_ co_ C hr hlk hnm
  have hne := L.ne
  obtain ⟨hA, hR, hc1, hc2, hc3⟩ := L
  refine g_lt hA (fun hla => ?_)
  refine g_lt hR (fun hlr => ?_)
  refine g_size C (fun hb0 => ?_)
  refine g_aload_n C dJ2_grow_2_0 rfl 0 rfl ?_
  refine g_get C in_J2 hA rfl 1 (by decide) q124 (fun _ hx => hx) rfl dJ2_grow_2_1 ?_
  refine g_alen (t0 := 2) (v := nI cap) C hR rfl rfl dJ2_grow_2_4 ?_
  refine g_istore_n (lv' := [(2, _), (0, _), (1, _)]) C dJ2_grow_2_5 rfl (by decide) rfl ?_
  refine g_iload_n C dJ2_grow_2_6 rfl 0 rfl ?_
  refine g_if_gtN (tgt := 20) C dJ2_grow_2_7 (by decide) (by omega) (fun c_7 => absurd c_7 (by omega)) (fun c_7 => ?_)
  refine g_aload_n C dJ2_grow_2_10 rfl 1 rfl ?_
  refine g_get C in_J2 hA rfl 1 (by decide) q124 (fun _ hx => hx) rfl dJ2_grow_2_11 ?_
  refine g_gets C C.2.2.2.2.2.2.2.1 q122 (fun _ hx => hx) dJ2_grow_2_14 ?_
  refine g_acmp_eq (rx := some arr) (ry := some (D.1 201)) (tgt := 45) C dJ2_grow_2_17 (by decide) (fun c_17 => ?_) (fun c_17 => absurd (hc3.elim (fun z => z.2 ▸ rfl) (fun z => absurd z.1 (by omega))) c_17)
  refine g_aload_n C dJ2_grow_2_45 rfl 1 rfl ?_
  refine g_bipush C dJ2_grow_2_46 kb_10 ?_
  refine g_iload_n C dJ2_grow_2_48 rfl 2 rfl ?_
  refine g_S2I C (met_J9_max (by omega) (by omega)) (va_cwS 2 C.2.2.2.2.1 (lw_S q314 q276 q75 q277) rfl rfl rfl ok_J9_max ⟨(Nat.le_of_ble_eq_true rfl), (Nat.le_of_ble_eq_true rfl)⟩) (Nat.le_of_ble_eq_true rfl) dJ2_grow_2_49 ⟨(by show _ ≤ 1; omega), (by show _ ≤ 10; omega)⟩ (fun r_49 h_49 n_49 hp_49 hn_49 => ?_)
  obtain ⟨rfl, rfl, rfl⟩ := hp_49
  refine g_topi (y := nI 10) (by rw [Nat.max_eq_left (by omega)]) ?_
  refine g_newO C q315 (by omega) (by show _ ≤ 1; omega) (by show _ ≤ 10; omega) dJ2_grow_2_52 ?_
  refine g_dup_x1 C dJ2_grow_2_55 rfl rfl ?_
  refine g_put C in_J2 tyJ2 tyJ2_ok nmJ2 ((va_up_ne _ _ (by omega)).trans hA) ha rfl 1 (by decide) q124 (fun _ hx => hx) rfl rfl rfl rfl (Nat.le_of_ble_eq_true rfl) rfl dJ2_grow_2_56 ?_
  exact g_aret C hr hlk dJ2_grow_2_59 (Or.inr ⟨_, rfl⟩) (Or.inr ⟨_, rfl⟩) (by omega) (by omega) ⟨_, rfl, ⟨rfl, rfl, va_up_self _ _ _, ⟨_, _, (va_up_ne _ _ (by omega)).trans (va_up_self _ _ _), by omega, by omega, by omega, fun i hi => by omega⟩, fun q q1 q2 => (va_up_ne _ _ q1).trans (va_up_ne _ _ q2)⟩⟩
set_option maxHeartbeats 4000000 in
set_option maxRecDepth 100000 in
theorem met_J2_grow_2_G {l : Launch} {D : va_G} {b0 n : Nat} {h : GH} {a arr cap sz : Nat} {m : Int32} {F : Nat → Option Nat} {k : Nat} (L : LiAt D b0 h a arr cap sz m F) (ha : b0 ≤ a) (hk : k = cap + 1) (h0 : cap ≤ 72) (hel : ∀ i, i < cap → ∀ v, F i = some v → gObj h v) : gMet l yJ2_grow_2 cJ2_grow_2 4 ((some (.array (.object "java/lang/Object")))) 3 104 1 110 D b0 h n [.ref a, .int (nI k)] (pR (fun r' h' n' => n = r' ∧ n + 1 = n' ∧ h' a = gO 7 [.int m, .ref n, .int (nI sz)] ∧ (∃ cap' F', h' n = gP D 102 cap' F' ∧ cap < cap' ∧ cap' ≤ 110 ∧ (cap = 0 → cap' = 10) ∧ ∀ i, i < cap → F' i = F i) ∧ ∀ q, q ≠ a → q ≠ n → h' q = h q)) := by
  refine gMet.of (lv := [(0, _), (1, _)]) (by decide) (Nat.le_of_ble_eq_true rfl) rfl ?_
  intro p_ e_ U0 m_ args_ below_ meth_ co_ C hr hlk hnm
  have hne := L.ne
  obtain ⟨hA, hR, hc1, hc2, hc3⟩ := L
  refine g_lt hA (fun hla => ?_)
  refine g_lt hR (fun hlr => ?_)
  refine g_size C (fun hb0 => ?_)
  refine g_aload_n C dJ2_grow_2_0 rfl 0 rfl ?_
  refine g_get C in_J2 hA rfl 1 (by decide) q124 (fun _ hx => hx) rfl dJ2_grow_2_1 ?_
  refine g_alen (t0 := 2) (v := nI cap) C hR rfl rfl dJ2_grow_2_4 ?_
  refine g_istore_n (lv' := [(2, _), (0, _), (1, _)]) C dJ2_grow_2_5 rfl (by decide) rfl ?_
  refine g_iload_n C dJ2_grow_2_6 rfl 0 rfl ?_
  refine g_if_gtN (tgt := 20) C dJ2_grow_2_7 (by decide) (by omega) (fun c_7 => ?_) (fun c_7 => ?_)
  · refine g_iload_n C dJ2_grow_2_20 rfl 0 rfl ?_
    refine g_iload_n C dJ2_grow_2_21 rfl 2 rfl ?_
    refine g_iload_n C dJ2_grow_2_22 rfl 0 rfl ?_
    refine g_isubN C dJ2_grow_2_23 (by omega) ?_
    refine g_iload_n C dJ2_grow_2_24 rfl 0 rfl ?_
    refine g_iconst C dJ2_grow_2_25 kc_1 ?_
    refine g_ishr C dJ2_grow_2_26 ?_
    refine g_topi (y := nI (cap / 2 ^ 1)) (pk_shrN (by omega) _ 1 (by decide)) ?_
    refine g_S3I C (met_J8_newLength (by omega) (by omega) (by omega)) (va_cwS 3 C.2.2.2.2.1 (lw_S q272 q273 q74 q274) rfl rfl rfl ok_J8_newLength ⟨(Nat.le_of_ble_eq_true rfl), (Nat.le_of_ble_eq_true rfl)⟩) (Nat.le_of_ble_eq_true rfl) dJ2_grow_2_27 ⟨(by show _ ≤ 1; omega), (by show _ ≤ 110; omega)⟩ (fun r_27 h_27 n_27 hp_27 hn_27 => ?_)
    obtain ⟨rfl, rfl, rfl⟩ := hp_27
    refine g_istore_n (lv' := [(3, _), (2, _), (0, _), (1, _)]) C dJ2_grow_2_30 rfl (by decide) rfl ?_
    refine g_aload_n C dJ2_grow_2_31 rfl 2 rfl ?_
    refine g_aload_n C dJ2_grow_2_32 rfl 2 rfl ?_
    refine g_get C in_J2 hA rfl 1 (by decide) q124 (fun _ hx => hx) rfl dJ2_grow_2_33 ?_
    refine g_iload_n C dJ2_grow_2_36 rfl 0 rfl ?_
    refine g_S2R C (met_J10_copyOf hR hel (by omega) (by omega)) (va_cwS 2 C.2.2.2.2.1 (lw_S q282 q283 q76 q284) rfl rfl rfl ok_J10_copyOf ⟨(Nat.le_of_ble_eq_true rfl), (Nat.le_of_ble_eq_true rfl)⟩) (Nat.le_of_ble_eq_true rfl) dJ2_grow_2_37 ⟨(by show _ ≤ 1; omega), (by show _ ≤ 110; omega)⟩ (fun r_37 h_37 n_37 hp_37 hn_37 => ?_)
    obtain ⟨rfl, rfl, rfl⟩ := hp_37
    refine g_dup_x1 C dJ2_grow_2_40 rfl rfl ?_
    refine g_put C in_J2 tyJ2 tyJ2_ok nmJ2 ((va_up_ne _ _ (by omega)).trans hA) ha rfl 1 (by decide) q124 (fun _ hx => hx) rfl rfl rfl rfl (Nat.le_of_ble_eq_true rfl) rfl dJ2_grow_2_41 ?_
    exact g_aret C hr hlk dJ2_grow_2_44 (Or.inr ⟨_, rfl⟩) (Or.inr ⟨_, rfl⟩) (by omega) (by omega) ⟨_, rfl, ⟨rfl, rfl, va_up_self _ _ _, ⟨_, _, (va_up_ne _ _ (by omega)).trans (va_up_self _ _ _), by omega, by omega, by omega, fun i hi => by simp [va_cpy, hi]⟩, fun q q1 q2 => (va_up_ne _ _ q1).trans (va_up_ne _ _ q2)⟩⟩
  · refine g_aload_n C dJ2_grow_2_10 rfl 1 rfl ?_
    refine g_get C in_J2 hA rfl 1 (by decide) q124 (fun _ hx => hx) rfl dJ2_grow_2_11 ?_
    refine g_gets C C.2.2.2.2.2.2.2.1 q122 (fun _ hx => hx) dJ2_grow_2_14 ?_
    refine g_acmp_eq (rx := some arr) (ry := some (D.1 201)) (tgt := 45) C dJ2_grow_2_17 (by decide) (fun c_17 => ?_) (fun c_17 => absurd (hc3.elim (fun z => z.2 ▸ rfl) (fun z => absurd z.1 (by omega))) c_17)
    refine g_aload_n C dJ2_grow_2_45 rfl 1 rfl ?_
    refine g_bipush C dJ2_grow_2_46 kb_10 ?_
    refine g_iload_n C dJ2_grow_2_48 rfl 2 rfl ?_
    refine g_S2I C (met_J9_max (by omega) (by omega)) (va_cwS 2 C.2.2.2.2.1 (lw_S q314 q276 q75 q277) rfl rfl rfl ok_J9_max ⟨(Nat.le_of_ble_eq_true rfl), (Nat.le_of_ble_eq_true rfl)⟩) (Nat.le_of_ble_eq_true rfl) dJ2_grow_2_49 ⟨(by show _ ≤ 1; omega), (by show _ ≤ 110; omega)⟩ (fun r_49 h_49 n_49 hp_49 hn_49 => ?_)
    obtain ⟨rfl, rfl, rfl⟩ := hp_49
    refine g_topi (y := nI 10) (by rw [Nat.max_eq_left (by omega)]) ?_
    refine g_newO C q315 (by omega) (by show _ ≤ 1; omega) (by show _ ≤ 110; omega) dJ2_grow_2_52 ?_
    refine g_dup_x1 C dJ2_grow_2_55 rfl rfl ?_
    refine g_put C in_J2 tyJ2 tyJ2_ok nmJ2 ((va_up_ne _ _ (by omega)).trans hA) ha rfl 1 (by decide) q124 (fun _ hx => hx) rfl rfl rfl rfl (Nat.le_of_ble_eq_true rfl) rfl dJ2_grow_2_56 ?_
    exact g_aret C hr hlk dJ2_grow_2_59 (Or.inr ⟨_, rfl⟩) (Or.inr ⟨_, rfl⟩) (by omega) (by omega) ⟨_, rfl, ⟨rfl, rfl, va_up_self _ _ _, ⟨_, _, (va_up_ne _ _ (by omega)).trans (va_up_self _ _ _), by omega, by omega, by omega, fun i hi => by omega⟩, fun q q1 q2 => (va_up_ne _ _ q1).trans (va_up_ne _ _ q2)⟩⟩
theorem ok_J2_grow : yJ2_grow.cls = "java/util/ArrayList" ∧ yJ2_grow.cls ≠ "java/lang/invoke/MethodHandle" ∧ yJ2_grow.cls ≠ "java/lang/invoke/VarHandle" ∧ (parseMethodDescriptor yJ2_grow.desc).map (fun d => d.parameters.length) = some 0 := by decide +kernel
set_option maxHeartbeats 4000000 in
set_option maxRecDepth 100000 in
theorem met_J2_grow_E {l : Launch} {D : va_G} {b0 n : Nat} {h : GH} {a arr cap sz : Nat} {m : Int32} {F : Nat → Option Nat} (L : LiAt D b0 h a arr cap sz m F) (ha : b0 ≤ a) (hs : sz = cap) (h0 : cap = 0) : gMet l yJ2_grow cJ2_grow 1 ((some (.array (.object "java/lang/Object")))) 2 44 1 10 D b0 h n [.ref a] (pR (fun r' h' n' => n = r' ∧ n + 1 = n' ∧ h' a = gO 7 [.int m, .ref n, .int (nI sz)] ∧ (∃ cap' F', h' n = gP D 102 cap' F' ∧ cap < cap' ∧ cap' ≤ 110 ∧ (cap = 0 → cap' = 10) ∧ ∀ i, i < cap → F' i = F i) ∧ ∀ q, q ≠ a → q ≠ n → h' q = h q)) := by
  refine gMet.of (lv := [(0, _)]) (by decide) (Nat.le_of_ble_eq_true rfl) rfl ?_
  intro p_ e_ U0 m_ args_ below_ meth_ co_ C hr hlk hnm
  have hc2 := L.2.2.2.1
  refine g_aload_n C dJ2_grow_0 rfl 0 rfl ?_
  refine g_aload_n C dJ2_grow_1 rfl 0 rfl ?_
  refine g_get C in_J2 L.1 rfl 2 (by decide) q127 (fun _ hx => hx) rfl dJ2_grow_2 ?_
  refine g_topi (y := nI (sz)) rfl ?_
  refine g_iconst C dJ2_grow_5 kc_1 ?_
  refine g_iaddN C dJ2_grow_6 ?_
  refine g_V1R C (met_J2_grow_2_E L ha (by omega) h0) (cwV 1 C.2.2.2.2.1 (lw_V q268 q270 qs2 q67 q271) rfl rfl rfl ok_J2_grow_2 ⟨(Nat.le_of_ble_eq_true rfl), (Nat.le_of_ble_eq_true rfl)⟩) L.1 rfl (Nat.le_of_ble_eq_true rfl) dJ2_grow_7 ⟨(Nat.le_of_ble_eq_true rfl), (Nat.le_of_ble_eq_true rfl)⟩ (fun r_7 h_7 n_7 hp_7 hn_7 => ?_)
  exact g_aret C hr hlk dJ2_grow_10 (Or.inr ⟨_, rfl⟩) (Or.inr ⟨_, rfl⟩) (Nat.le_of_ble_eq_true rfl) (Nat.le_of_ble_eq_true rfl) ⟨_, rfl, hp_7⟩
set_option maxHeartbeats 4000000 in
set_option maxRecDepth 100000 in
theorem met_J2_grow_G {l : Launch} {D : va_G} {b0 n : Nat} {h : GH} {a arr cap sz : Nat} {m : Int32} {F : Nat → Option Nat} (L : LiAt D b0 h a arr cap sz m F) (ha : b0 ≤ a) (hs : sz = cap) (h0 : cap ≤ 72) (hel : ∀ i, i < cap → ∀ v, F i = some v → gObj h v) : gMet l yJ2_grow cJ2_grow 1 ((some (.array (.object "java/lang/Object")))) 4 127 1 110 D b0 h n [.ref a] (pR (fun r' h' n' => n = r' ∧ n + 1 = n' ∧ h' a = gO 7 [.int m, .ref n, .int (nI sz)] ∧ (∃ cap' F', h' n = gP D 102 cap' F' ∧ cap < cap' ∧ cap' ≤ 110 ∧ (cap = 0 → cap' = 10) ∧ ∀ i, i < cap → F' i = F i) ∧ ∀ q, q ≠ a → q ≠ n → h' q = h q)) := by
  refine gMet.of (lv := [(0, _)]) (by decide) (Nat.le_of_ble_eq_true rfl) rfl ?_
  intro p_ e_ U0 m_ args_ below_ meth_ co_ C hr hlk hnm
  have hc2 := L.2.2.2.1
  refine g_aload_n C dJ2_grow_0 rfl 0 rfl ?_
  refine g_aload_n C dJ2_grow_1 rfl 0 rfl ?_
  refine g_get C in_J2 L.1 rfl 2 (by decide) q127 (fun _ hx => hx) rfl dJ2_grow_2 ?_
  refine g_topi (y := nI (sz)) rfl ?_
  refine g_iconst C dJ2_grow_5 kc_1 ?_
  refine g_iaddN C dJ2_grow_6 ?_
  refine g_V1R C (met_J2_grow_2_G L ha (by omega) h0 hel) (cwV 1 C.2.2.2.2.1 (lw_V q268 q270 qs2 q67 q271) rfl rfl rfl ok_J2_grow_2 ⟨(Nat.le_of_ble_eq_true rfl), (Nat.le_of_ble_eq_true rfl)⟩) L.1 rfl (Nat.le_of_ble_eq_true rfl) dJ2_grow_7 ⟨(Nat.le_of_ble_eq_true rfl), (Nat.le_of_ble_eq_true rfl)⟩ (fun r_7 h_7 n_7 hp_7 hn_7 => ?_)
  exact g_aret C hr hlk dJ2_grow_10 (Or.inr ⟨_, rfl⟩) (Or.inr ⟨_, rfl⟩) (Nat.le_of_ble_eq_true rfl) (Nat.le_of_ble_eq_true rfl) ⟨_, rfl, hp_7⟩
theorem ok_J2_add_2 : yJ2_add_2.cls = "java/util/ArrayList" ∧ yJ2_add_2.cls ≠ "java/lang/invoke/MethodHandle" ∧ yJ2_add_2.cls ≠ "java/lang/invoke/VarHandle" ∧ (parseMethodDescriptor yJ2_add_2.desc).map (fun d => d.parameters.length) = some 3 := by decide +kernel
set_option maxHeartbeats 4000000 in
set_option maxRecDepth 100000 in
theorem met_J2_add_2_R {l : Launch} {D : va_G} {b0 n : Nat} {h : GH} {a arr cap sz : Nat} {m : Int32} {F : Nat → Option Nat} {v : Nat} (L : LiAt D b0 h a arr cap sz (m + 1) F) (ha : b0 ≤ a) (hv : gObj h v) (h0 : sz < cap) : gMet l yJ2_add_2 cJ2_add_2 4 (none) 0 0 0 0 D b0 h n [.ref a, .ref v, .ref arr, .int (nI sz)] (pV (fun h' n' => AddX D b0 h a arr cap sz m F v n h' n')) := by
  refine gMet.of (lv := [(0, _), (1, _), (2, _), (3, _)]) (by decide) (Nat.le_of_ble_eq_true rfl) rfl ?_
  intro p_ e_ U0 m_ args_ below_ meth_ co_ C hr hlk hnm
  have hne := L.ne
  have hv0 := hv
  obtain ⟨hA, hR, hc1, hc2, hc3⟩ := id L
  refine g_lt hA (fun hla => ?_)
  refine g_lt hR (fun hlr => ?_)
  refine g_size C (fun hb0 => ?_)
  refine g_none (fun hno => ?_)
  have hvn := gObj.ne hv (hno n (Nat.le_refl n))
  obtain ⟨ci, fs, Cn, T, N, ve, vc⟩ := id hv
  refine g_lt ve (fun hlv => ?_)
  refine g_iload_n C dJ2_add_2_0 rfl 3 rfl ?_
  refine g_aload_n C dJ2_add_2_1 rfl 2 rfl ?_
  refine g_alen (t0 := 2) (v := nI cap) C hR rfl rfl dJ2_add_2_2 ?_
  refine g_icmp_neN (tgt := 11) C dJ2_add_2_3 (by decide) (by omega) (by omega) (fun c_3 => ?_) (fun c_3 => absurd c_3 (by omega))
  refine g_aload_n C dJ2_add_2_11 rfl 2 rfl ?_
  refine g_iload_n C dJ2_add_2_12 rfl 3 rfl ?_
  refine g_aload_n C dJ2_add_2_13 rfl 1 rfl ?_
  refine g_aastG C hR (hc3.resolve_left (fun z => absurd z.1 (by omega))).2 hv (by omega) (by omega) rfl dJ2_add_2_14 ?_
  refine g_opq (fun h14 e14 o14 => ?_)
  refine g_aload_n C dJ2_add_2_15 rfl 0 rfl ?_
  refine g_iload_n C dJ2_add_2_16 rfl 3 rfl ?_
  refine g_iconst C dJ2_add_2_17 kc_1 ?_
  refine g_iaddN C dJ2_add_2_18 ?_
  refine g_put C in_J2 tyJ2 tyJ2_ok nmJ2 ((o14 _ (by first | assumption | omega)).trans hA) ha rfl 2 (by decide) q127 (fun _ hx => hx) rfl rfl rfl rfl (Nat.le_of_ble_eq_true rfl) rfl dJ2_add_2_19 ?_
  refine g_opq (fun h19 e19 o19 => ?_)
  exact g_vret C hr hlk dJ2_add_2_22 (Nat.le_of_ble_eq_true rfl) (Nat.le_of_ble_eq_true rfl) ⟨rfl, ⟨_, ⟨e19, (o19 _ hne).trans e14, by omega, by omega, by omega⟩, fun i hi => va_up_ne _ _ (by omega), va_up_self _ _ _, rfl, fun q q1 q2 => (o19 _ q1).trans (o14 _ q2)⟩⟩
set_option maxHeartbeats 4000000 in
set_option maxRecDepth 100000 in
theorem met_J2_add_2_E {l : Launch} {D : va_G} {b0 n : Nat} {h : GH} {a arr cap sz : Nat} {m : Int32} {F : Nat → Option Nat} {v : Nat} (L : LiAt D b0 h a arr cap sz (m + 1) F) (ha : b0 ≤ a) (hv : gObj h v) (h0 : cap = 0) : gMet l yJ2_add_2 cJ2_add_2 4 (none) 3 64 1 10 D b0 h n [.ref a, .ref v, .ref arr, .int (nI sz)] (pV (fun h' n' => AddX D b0 h a n 10 sz m F v (n + 1) h' n')) := by
  refine gMet.of (lv := [(0, _), (1, _), (2, _), (3, _)]) (by decide) (Nat.le_of_ble_eq_true rfl) rfl ?_
  intro p_ e_ U0 m_ args_ below_ meth_ co_ C hr hlk hnm
  have hne := L.ne
  have hv0 := hv
  obtain ⟨hA, hR, hc1, hc2, hc3⟩ := id L
  refine g_lt hA (fun hla => ?_)
  refine g_lt hR (fun hlr => ?_)
  refine g_size C (fun hb0 => ?_)
  refine g_none (fun hno => ?_)
  have hvn := gObj.ne hv (hno n (Nat.le_refl n))
  obtain ⟨ci, fs, Cn, T, N, ve, vc⟩ := id hv
  refine g_lt ve (fun hlv => ?_)
  refine g_iload_n C dJ2_add_2_0 rfl 3 rfl ?_
  refine g_aload_n C dJ2_add_2_1 rfl 2 rfl ?_
  refine g_alen (t0 := 2) (v := nI cap) C hR rfl rfl dJ2_add_2_2 ?_
  refine g_icmp_neN (tgt := 11) C dJ2_add_2_3 (by decide) (by omega) (by omega) (fun c_3 => absurd c_3 (by omega)) (fun c_3 => ?_)
  refine g_aload_n C dJ2_add_2_6 rfl 0 rfl ?_
  refine g_V0R C (met_J2_grow_E L ha (by omega) h0) (cwV 0 C.2.2.2.2.1 (lw_V q264 q266 qs1 q67 q267) rfl rfl rfl ok_J2_grow ⟨(Nat.le_of_ble_eq_true rfl), (Nat.le_of_ble_eq_true rfl)⟩) hA rfl (Nat.le_of_ble_eq_true rfl) dJ2_add_2_7 ⟨(Nat.le_of_ble_eq_true rfl), (Nat.le_of_ble_eq_true rfl)⟩ (fun r_7 h_7 n_7 hp_7 hn_7 => ?_)
  obtain ⟨rfl, rfl, gA, ⟨cap1, F1, gR, g1, g2, gz, gF⟩, go⟩ := hp_7
  refine g_astore_n (lv' := [(2, _), (0, _), (1, _), (3, _)]) C dJ2_add_2_10 rfl (by decide) rfl ?_
  refine g_aload_n C dJ2_add_2_11 rfl 0 rfl ?_
  refine g_iload_n C dJ2_add_2_12 rfl 3 rfl ?_
  refine g_aload_n C dJ2_add_2_13 rfl 2 rfl ?_
  refine g_aastG C gR hb0 (hv.upd gA go hvn hA) (by omega) (by omega) rfl dJ2_add_2_14 ?_
  refine g_opq (fun h14 e14 o14 => ?_)
  refine g_aload_n C dJ2_add_2_15 rfl 1 rfl ?_
  refine g_iload_n C dJ2_add_2_16 rfl 3 rfl ?_
  refine g_iconst C dJ2_add_2_17 kc_1 ?_
  refine g_iaddN C dJ2_add_2_18 ?_
  refine g_put C in_J2 tyJ2 tyJ2_ok nmJ2 ((o14 _ (by first | assumption | omega)).trans gA) ha rfl 2 (by decide) q127 (fun _ hx => hx) rfl rfl rfl rfl (Nat.le_of_ble_eq_true rfl) rfl dJ2_add_2_19 ?_
  refine g_opq (fun h19 e19 o19 => ?_)
  exact g_vret C hr hlk dJ2_add_2_22 (Nat.le_of_ble_eq_true rfl) (Nat.le_of_ble_eq_true rfl) ⟨rfl, by obtain rfl := gz h0; exact ⟨_, ⟨e19, (o19 _ (by omega)).trans e14, by omega, by omega, by omega⟩, fun i hi => (va_up_ne _ _ (by omega)).trans (gF i (by omega)), va_up_self _ _ _, rfl, fun q q1 q2 => ((o19 _ q1).trans (o14 _ q2)).trans (go q q1 q2)⟩⟩
set_option maxHeartbeats 4000000 in
set_option maxRecDepth 100000 in
theorem met_J2_add_2_A {l : Launch} {D : va_G} {b0 n : Nat} {h : GH} {a arr cap sz : Nat} {m : Int32} {F : Nat → Option Nat} {v : Nat} (L : LiAt D b0 h a arr cap sz (m + 1) F) (ha : b0 ≤ a) (hv : gObj h v) (h0 : sz ≤ 72) (hel : ∀ i, i < sz → ∀ v, F i = some v → gObj h v) : gMet l yJ2_add_2 cJ2_add_2 4 (none) 5 147 1 110 D b0 h n [.ref a, .ref v, .ref arr, .int (nI sz)] (pV (fun h' n' => AddP D b0 h n a arr cap sz m F v h' n')) := by
  refine gMet.of (lv := [(0, _), (1, _), (2, _), (3, _)]) (by decide) (Nat.le_of_ble_eq_true rfl) rfl ?_
  intro p_ e_ U0 m_ args_ below_ meth_ co_ C hr hlk hnm
  have hne := L.ne
  have hv0 := hv
  obtain ⟨hA, hR, hc1, hc2, hc3⟩ := id L
  refine g_lt hA (fun hla => ?_)
  refine g_lt hR (fun hlr => ?_)
  refine g_size C (fun hb0 => ?_)
  refine g_none (fun hno => ?_)
  have hvn := gObj.ne hv (hno n (Nat.le_refl n))
  obtain ⟨ci, fs, Cn, T, N, ve, vc⟩ := id hv
  refine g_lt ve (fun hlv => ?_)
  refine g_iload_n C dJ2_add_2_0 rfl 3 rfl ?_
  refine g_aload_n C dJ2_add_2_1 rfl 2 rfl ?_
  refine g_alen (t0 := 2) (v := nI cap) C hR rfl rfl dJ2_add_2_2 ?_
  refine g_icmp_neN (tgt := 11) C dJ2_add_2_3 (by decide) (by omega) (by omega) (fun c_3 => ?_) (fun c_3 => ?_)
  · refine g_aload_n C dJ2_add_2_11 rfl 2 rfl ?_
    refine g_iload_n C dJ2_add_2_12 rfl 3 rfl ?_
    refine g_aload_n C dJ2_add_2_13 rfl 1 rfl ?_
    refine g_aastG C hR (hc3.resolve_left (fun z => absurd z.1 (by omega))).2 hv (by omega) (by omega) rfl dJ2_add_2_14 ?_
    refine g_opq (fun h14 e14 o14 => ?_)
    refine g_aload_n C dJ2_add_2_15 rfl 0 rfl ?_
    refine g_iload_n C dJ2_add_2_16 rfl 3 rfl ?_
    refine g_iconst C dJ2_add_2_17 kc_1 ?_
    refine g_iaddN C dJ2_add_2_18 ?_
    refine g_put C in_J2 tyJ2 tyJ2_ok nmJ2 ((o14 _ (by first | assumption | omega)).trans hA) ha rfl 2 (by decide) q127 (fun _ hx => hx) rfl rfl rfl rfl (Nat.le_of_ble_eq_true rfl) rfl dJ2_add_2_19 ?_
    refine g_opq (fun h19 e19 o19 => ?_)
    exact g_vret C hr hlk dJ2_add_2_22 (Nat.le_of_ble_eq_true rfl) (Nat.le_of_ble_eq_true rfl) ⟨rfl, ⟨arr, cap, _, ⟨e19, (o19 _ hne).trans e14, by omega, by omega, by omega⟩, fun i hi => va_up_ne _ _ (by omega), va_up_self _ _ _, Or.inl ⟨rfl, rfl, rfl⟩, fun q q1 q2 => (o19 _ q1).trans (o14 _ q2)⟩⟩
  · refine g_aload_n C dJ2_add_2_6 rfl 0 rfl ?_
    refine g_V0R C (met_J2_grow_G L ha (by omega) (by omega) (fun i hi => hel i (by omega))) (cwV 0 C.2.2.2.2.1 (lw_V q264 q266 qs1 q67 q267) rfl rfl rfl ok_J2_grow ⟨(Nat.le_of_ble_eq_true rfl), (Nat.le_of_ble_eq_true rfl)⟩) hA rfl (Nat.le_of_ble_eq_true rfl) dJ2_add_2_7 ⟨(Nat.le_of_ble_eq_true rfl), (Nat.le_of_ble_eq_true rfl)⟩ (fun r_7 h_7 n_7 hp_7 hn_7 => ?_)
    obtain ⟨rfl, rfl, gA, ⟨cap1, F1, gR, g1, g2, gz, gF⟩, go⟩ := hp_7
    refine g_astore_n (lv' := [(2, _), (0, _), (1, _), (3, _)]) C dJ2_add_2_10 rfl (by decide) rfl ?_
    refine g_aload_n C dJ2_add_2_11 rfl 0 rfl ?_
    refine g_iload_n C dJ2_add_2_12 rfl 3 rfl ?_
    refine g_aload_n C dJ2_add_2_13 rfl 2 rfl ?_
    refine g_aastG C gR hb0 (hv.upd gA go hvn hA) (by omega) (by omega) rfl dJ2_add_2_14 ?_
    refine g_opq (fun h14 e14 o14 => ?_)
    refine g_aload_n C dJ2_add_2_15 rfl 1 rfl ?_
    refine g_iload_n C dJ2_add_2_16 rfl 3 rfl ?_
    refine g_iconst C dJ2_add_2_17 kc_1 ?_
    refine g_iaddN C dJ2_add_2_18 ?_
    refine g_put C in_J2 tyJ2 tyJ2_ok nmJ2 ((o14 _ (by first | assumption | omega)).trans gA) ha rfl 2 (by decide) q127 (fun _ hx => hx) rfl rfl rfl rfl (Nat.le_of_ble_eq_true rfl) rfl dJ2_add_2_19 ?_
    refine g_opq (fun h19 e19 o19 => ?_)
    exact g_vret C hr hlk dJ2_add_2_22 (Nat.le_of_ble_eq_true rfl) (Nat.le_of_ble_eq_true rfl) ⟨rfl, ⟨n, cap1, _, ⟨e19, (o19 _ (by omega)).trans e14, by omega, by omega, by omega⟩, fun i hi => (va_up_ne _ _ (by omega)).trans (gF i (by omega)), va_up_self _ _ _, Or.inr ⟨rfl, rfl, gz⟩, fun q q1 q2 => ((o19 _ q1).trans (o14 _ q2)).trans (go q q1 q2)⟩⟩
