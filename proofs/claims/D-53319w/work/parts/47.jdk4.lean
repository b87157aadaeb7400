theorem dq_dec {i : Nat} (hi : i < 17) {x : Int32} (c : ¬ x < 0) (e : nI i + (-1) = x := by rfl) : nI ((i + 16) % 17) = x := by
  subst e
  have : ∀ i, i < 17 → ¬ nI i + (-1) < 0 → nI ((i + 16) % 17) = nI i + (-1) := by decide +kernel
  exact this i hi c
theorem dq_dec0 {i : Nat} (hi : i < 17) {x y : Int32} (c : x < 0) (e : nI i + (-1) = x := by rfl) (ey : nI 16 = y := by rfl) : nI ((i + 16) % 17) = y := by
  subst e
  subst ey
  have : ∀ i, i < 17 → nI i + (-1) < 0 → nI ((i + 16) % 17) = nI 16 := by decide +kernel
  exact this i hi c
theorem dq_sub {i j : Nat} (hi : i < 17) (hj : j < 17) {x : Int32} (c : ¬ x < 0) (e : nI i - nI j = x := by rfl) : nI ((i + 17 - j) % 17) = x := by
  subst e
  have : ∀ i, i < 17 → ∀ j, j < 17 → ¬ nI i - nI j < 0 → nI ((i + 17 - j) % 17) = nI i - nI j := by decide +kernel
  exact this i hi j hj c
theorem dq_sub0 {i j : Nat} (hi : i < 17) (hj : j < 17) {x y : Int32} (c : x < 0) (e : nI i - nI j = x := by rfl) (ey : nI i - nI j + nI 17 = y := by rfl) : nI ((i + 17 - j) % 17) = y := by
  subst e
  subst ey
  have : ∀ i, i < 17 → ∀ j, j < 17 → nI i - nI j < 0 → nI ((i + 17 - j) % 17) = nI i - nI j + nI 17 := by decide +kernel
  exact this i hi j hj c
theorem dq_up {F : Nat → Option Nat} {f : Nat → Nat} {hd k v : Nat} (hf : ∀ i, i < k → F ((hd + i) % 17) = some (f i)) (hk : k ≤ 4) : ∀ i, i < k + 1 → va_up F ((hd + k) % 17) (some v) ((hd + i) % 17) = some (va_up f k v i) := by
  intro i hi
  by_cases h : i = k
  · subst h; rw [va_up_self, va_up_self]
  · rw [va_up_ne _ _ (by omega), va_up_ne _ _ h]; exact hf i (by omega)
theorem dq_first {F : Nat → Option Nat} {f : Nat → Nat} {hd k : Nat} (hf : ∀ i, i < k + 1 → F ((hd + i) % 17) = some (f i)) (h17 : hd < 17) (hk : k ≤ 4) : ∀ i, i < k → va_up F hd none (((hd + 1) % 17 + i) % 17) = some (f (i + 1)) := by
  intro i hi
  rw [va_up_ne _ _ (by omega), show ((hd + 1) % 17 + i) % 17 = (hd + (i + 1)) % 17 by omega]
  exact hf (i + 1) (by omega)
theorem dq_last {F : Nat → Option Nat} {f : Nat → Nat} {hd k : Nat} (hf : ∀ i, i < k + 1 → F ((hd + i) % 17) = some (f i)) (h17 : hd < 17) (hk : k ≤ 4) : ∀ i, i < k → va_up F (((hd + (k + 1)) % 17 + 16) % 17) none ((hd + i) % 17) = some (f i) := by
  intro i hi
  rw [va_up_ne _ _ (by omega)]
  exact hf i (by omega)
theorem ok_J2_indexOfRange : yJ2_indexOfRange.cls = "java/util/ArrayList" ∧ yJ2_indexOfRange.cls ≠ "java/lang/invoke/MethodHandle" ∧ yJ2_indexOfRange.cls ≠ "java/lang/invoke/VarHandle" ∧ (parseMethodDescriptor yJ2_indexOfRange.desc).map (fun d => d.parameters.length) = some 3 := by decide +kernel
set_option maxHeartbeats 4000000 in
set_option maxRecDepth 100000 in
theorem met_J2_indexOfRange {l : Launch} {D : va_G} {b0 n : Nat} {h : GH} {a arr cap sz : Nat} {m : Int32} {F : Nat → Option Nat} {x j : Nat} {G : Nat → Nat} {fs : List Value} (hA : h a = gO 7 [.int m, .ref arr, .int (nI sz)]) (hR : h arr = gP D 102 cap F) (hs : sz ≤ cap) (hc : cap ≤ 110) (hx : h x = gO 3 fs) (hF : ∀ i, i < sz → F i = some (G i)) (hj : j < sz) (hG : G j = x) (hi : ∀ i, i < j → G i ≠ x) : gMet l yJ2_indexOfRange cJ2_indexOfRange 6 ((some .int)) 1 21 0 0 D b0 h n [.ref a, .ref x, .int (nI 0), .int (nI sz)] (pI (fun r' h' n' => nI j = r' ∧ h = h' ∧ n = n')) := by
  refine gMet.of (lv := [(0, _), (1, _), (2, _), (3, _)]) (by decide) (Nat.le_of_ble_eq_true rfl) rfl ?_
  intro p_ e_ U0 m_ args_ below_ meth_ co_ C hr hlk hnm
  refine g_aload_n C dJ2_indexOfRange_0 rfl 0 rfl ?_
  refine g_get C in_J2 hA rfl 1 (by decide) q124 (fun _ hx => hx) rfl dJ2_indexOfRange_1 ?_
  refine g_astore (lv' := [(4, _), (0, _), (1, _), (2, _), (3, _)]) C dJ2_indexOfRange_4 (by decide) rfl ?_
  refine g_aload_n C dJ2_indexOfRange_6 rfl 2 rfl ?_
  refine g_ifnonnull (tgt := 39) C dJ2_indexOfRange_7 (by decide) ?_
  refine g_iload_n C dJ2_indexOfRange_39 rfl 3 rfl ?_
  refine g_istore (lv' := [(5, _), (4, _), (0, _), (1, _), (2, _), (3, _)]) C dJ2_indexOfRange_40 (by decide) rfl ?_
  have loop : ∀ (N_ i : Nat) , i ≤ j → j < i + N_ → gW p_ l e_ (headSpec (ws_ yJ2_indexOfRange cJ2_indexOfRange 6 ((some .int))) (gRm 1 21 0 0)).room U0 m_ args_ below_ meth_ co_ (MQ below_ (gQc D b0 (pI (fun r' h' n' => nI j = r' ∧ h = h' ∧ n = n'))) args_ U0 0 0 (gA b0)) D b0 6 h n 0 0 42 [(0, .ref a), (1, .ref x), (2, .int (nI 0)), (3, .int (nI sz)), (4, .ref arr), (5, .int (nI i))] [] := by
    intro N_
    induction N_ with
    | zero => intro i  h1_ h2_; exact absurd h2_ (by omega)
    | succ N_ ih =>
      intro i  h1_ h2_ 
      refine g_iload C dJ2_indexOfRange_42 5 rfl ?_
      refine g_iload_n C dJ2_indexOfRange_44 rfl 3 rfl ?_
      refine g_icmp_geN (tgt := 69) C dJ2_indexOfRange_45 (by decide) (by omega) (by omega) (fun c_45 => absurd c_45 (by omega)) (fun c_45 => ?_)
      refine g_aload_n C dJ2_indexOfRange_48 rfl 1 rfl ?_
      refine g_aload C dJ2_indexOfRange_49 4 rfl ?_
      refine g_iload C dJ2_indexOfRange_51 5 rfl ?_
      refine g_aald (t0 := 2) (v := .ref (G i)) C hR rfl rfl (by omega) (by omega) (by rw [hF i (by omega)]; rfl) dJ2_indexOfRange_53 ?_
      refine g_U1I C (met_J21_equals) (va_cwU 1 C.2.2.2.2.1 (lw_app (lw_l5 q712 q714 q717 q713 q1469) (lw_meth q734)) rfl rfl rfl rfl ok_J21_equals.2 ⟨(Nat.le_of_ble_eq_true rfl), (Nat.le_of_ble_eq_true rfl)⟩) hx rfl (Nat.le_of_ble_eq_true rfl) dJ2_indexOfRange_54 ⟨(Nat.le_of_ble_eq_true rfl), (Nat.le_of_ble_eq_true rfl)⟩ (fun r_54 h_54 n_54 hp_54 hn_54 => ?_)
      obtain ⟨rfl, rfl, rfl⟩ := hp_54
      refine g_if_eqB (tgt := 63) C dJ2_indexOfRange_57 (by decide) (fun c_57 => ?_) (fun c_57 => ?_)
      · refine g_iinc (lv' := [(5, _), (0, _), (1, _), (2, _), (3, _), (4, _)]) (t := 5) C dJ2_indexOfRange_63 rfl (nI_1 _) (by decide) rfl ?_
        refine g_goto (tgt := 42) C dJ2_indexOfRange_66 (by decide) ?_
        refine g_pick (lv' := [(0, _), (1, _), (2, _), (3, _), (4, _), (5, _)]) [1, 2, 3, 4, 5, 0] rfl ?_
        exact ih (i + 1) ((Nat.lt_or_ge i j).elim (fun hh => hh) (fun hh => absurd (show x = G i by rw [show i = j by omega]; exact hG.symm) (of_decide_eq_false c_57))) (by omega)
      · refine g_iload C dJ2_indexOfRange_60 5 rfl ?_
        exact g_iret C hr hlk dJ2_indexOfRange_62 (Nat.le_of_ble_eq_true rfl) (Nat.le_of_ble_eq_true rfl) rfl ⟨_, rfl, ⟨(Nat.lt_or_ge i j).elim (fun hh => absurd (of_decide_eq_true c_57).symm (hi i hh)) (fun hh => by rw [show i = j by omega]), rfl, rfl⟩⟩
  refine g_pick (lv' := [(0, _), (1, _), (2, _), (3, _), (4, _), (5, _)]) [2, 3, 4, 5, 1, 0] rfl ?_
  exact loop (j + 1) 0 (by omega) (by omega)
theorem ok_J2_indexOf : yJ2_indexOf.cls = "java/util/ArrayList" ∧ yJ2_indexOf.cls ≠ "java/lang/invoke/MethodHandle" ∧ yJ2_indexOf.cls ≠ "java/lang/invoke/VarHandle" ∧ (parseMethodDescriptor yJ2_indexOf.desc).map (fun d => d.parameters.length) = some 1 := by decide +kernel
set_option maxHeartbeats 4000000 in
set_option maxRecDepth 100000 in
theorem met_J2_indexOf {l : Launch} {D : va_G} {b0 n : Nat} {h : GH} {a arr cap sz : Nat} {m : Int32} {F : Nat → Option Nat} {x j : Nat} {G : Nat → Nat} {fs : List Value} (hA : h a = gO 7 [.int m, .ref arr, .int (nI sz)]) (hR : h arr = gP D 102 cap F) (hs : sz ≤ cap) (hc : cap ≤ 110) (hx : h x = gO 3 fs) (hF : ∀ i, i < sz → F i = some (G i)) (hj : j < sz) (hG : G j = x) (hi : ∀ i, i < j → G i ≠ x) : gMet l yJ2_indexOf cJ2_indexOf 2 ((some .int)) 2 46 0 0 D b0 h n [.ref a, .ref x] (pI (fun r' h' n' => nI j = r' ∧ h = h' ∧ n = n')) := by
  refine gMet.of (lv := [(0, _), (1, _)]) (by decide) (Nat.le_of_ble_eq_true rfl) rfl ?_
  intro p_ e_ U0 m_ args_ below_ meth_ co_ C hr hlk hnm
  refine g_aload_n C dJ2_indexOf_0 rfl 0 rfl ?_
  refine g_aload_n C dJ2_indexOf_1 rfl 1 rfl ?_
  refine g_iconst C dJ2_indexOf_2 kc_0 ?_
  refine g_aload_n C dJ2_indexOf_3 rfl 0 rfl ?_
  refine g_get C in_J2 hA rfl 2 (by decide) q127 (fun _ hx => hx) rfl dJ2_indexOf_4 ?_
  refine g_topi (y := nI (sz)) rfl ?_
  refine g_V3I C (met_J2_indexOfRange hA hR hs hc hx hF hj hG hi) (cwV 3 C.2.2.2.2.1 (lw_V q707 q708 q709 q67 q710) rfl rfl rfl ok_J2_indexOfRange ⟨(Nat.le_of_ble_eq_true rfl), (Nat.le_of_ble_eq_true rfl)⟩) hA rfl (Nat.le_of_ble_eq_true rfl) dJ2_indexOf_7 ⟨(Nat.le_of_ble_eq_true rfl), (Nat.le_of_ble_eq_true rfl)⟩ (fun r_7 h_7 n_7 hp_7 hn_7 => ?_)
  obtain ⟨rfl, rfl, rfl⟩ := hp_7
  exact g_iret C hr hlk dJ2_indexOf_10 (Nat.le_of_ble_eq_true rfl) (Nat.le_of_ble_eq_true rfl) rfl ⟨_, rfl, ⟨rfl, rfl, rfl⟩⟩
/-- a deque at a: its row of seventeen at arr; k held, from hd on, in turn f 0, f 1 .. -/
def DqAt (D : va_G) (b0 : Nat) (h : GH) (a arr hd k : Nat) (F : Nat → Option Nat) (f : Nat → Nat) : Prop :=
  h a = gO 10 [.ref arr, .int (nI hd), .int (nI ((hd + k) % 17))] ∧ h arr = gP D 102 17 F ∧ hd < 17 ∧ k ≤ 5 ∧ b0 ≤ a ∧ b0 ≤ arr ∧ (∀ i, i < k → F ((hd + i) % 17) = some (f i))
theorem DqAt.ne {D : va_G} {b0 : Nat} {h : GH} {a arr hd k : Nat} {F : Nat → Option Nat} {f : Nat → Nat} (L : DqAt D b0 h a arr hd k F f) : arr ≠ a := by
  intro e
  have h1 := L.1
  rw [← e, L.2.1] at h1
  cases h1
theorem ok_J3_inc : yJ3_inc.cls ≠ "java/lang/invoke/MethodHandle" ∧ yJ3_inc.cls ≠ "java/lang/invoke/VarHandle" ∧ (parseMethodDescriptor yJ3_inc.desc).map (fun d => d.parameters.length) = some 2 := by decide +kernel
set_option maxHeartbeats 4000000 in
set_option maxRecDepth 100000 in
theorem met_J3_inc {l : Launch} {D : va_G} {b0 n : Nat} {h : GH} {i : Nat} (hi : i < 17) : gMet l yJ3_inc cJ3_inc 2 ((some .int)) 0 0 0 0 D b0 h n [.int (nI i), .int (nI 17)] (pI (fun r' h' n' => nI ((i + 1) % 17) = r' ∧ h = h' ∧ n = n')) := by
  refine gMet.of (lv := [(0, _), (1, _)]) (by decide) (Nat.le_of_ble_eq_true rfl) rfl ?_
  intro p_ e_ U0 m_ args_ below_ meth_ co_ C hr hlk hnm
  refine g_iinc (lv' := [(0, _), (1, _)]) (t := 0) C dJ3_inc_0 rfl (nI_1 _) (by decide) rfl ?_
  refine g_iload_n C dJ3_inc_3 rfl 0 rfl ?_
  refine g_iload_n C dJ3_inc_4 rfl 1 rfl ?_
  refine g_icmp_ltN (tgt := 10) C dJ3_inc_5 (by decide) (by omega) (by omega) (fun c_5 => ?_) (fun c_5 => ?_)
  · refine g_iload_n C dJ3_inc_10 rfl 0 rfl ?_
    exact g_iret C hr hlk dJ3_inc_11 (Nat.le_of_ble_eq_true rfl) (Nat.le_of_ble_eq_true rfl) rfl ⟨_, rfl, ⟨by rw [Nat.mod_eq_of_lt (by omega)], rfl, rfl⟩⟩
  · refine g_iconst C dJ3_inc_8 kc_0 ?_
    refine g_istore_n (lv' := [(0, _), (1, _)]) C dJ3_inc_9 rfl (by decide) rfl ?_
    refine g_iload_n C dJ3_inc_10 rfl 0 rfl ?_
    exact g_iret C hr hlk dJ3_inc_11 (Nat.le_of_ble_eq_true rfl) (Nat.le_of_ble_eq_true rfl) rfl ⟨_, rfl, ⟨by rw [show (i + 1) % 17 = 0 by omega], rfl, rfl⟩⟩
theorem ok_J3_dec : yJ3_dec.cls ≠ "java/lang/invoke/MethodHandle" ∧ yJ3_dec.cls ≠ "java/lang/invoke/VarHandle" ∧ (parseMethodDescriptor yJ3_dec.desc).map (fun d => d.parameters.length) = some 2 := by decide +kernel
set_option maxHeartbeats 4000000 in
set_option maxRecDepth 100000 in
theorem met_J3_dec {l : Launch} {D : va_G} {b0 n : Nat} {h : GH} {i : Nat} (hi : i < 17) : gMet l yJ3_dec cJ3_dec 2 ((some .int)) 0 0 0 0 D b0 h n [.int (nI i), .int (nI 17)] (pI (fun r' h' n' => nI ((i + 16) % 17) = r' ∧ h = h' ∧ n = n')) := by
  refine gMet.of (lv := [(0, _), (1, _)]) (by decide) (Nat.le_of_ble_eq_true rfl) rfl ?_
  intro p_ e_ U0 m_ args_ below_ meth_ co_ C hr hlk hnm
  refine g_iinc (lv' := [(0, _), (1, _)]) (t := 0) C dJ3_dec_0 rfl rfl (by decide) rfl ?_
  refine g_iload_n C dJ3_dec_3 rfl 0 rfl ?_
  refine g_if_ge (tgt := 11) C dJ3_dec_4 (by decide) (fun c_4 => ?_) (fun c_4 => ?_)
  · refine g_iload_n C dJ3_dec_11 rfl 0 rfl ?_
    exact g_iret C hr hlk dJ3_dec_12 (Nat.le_of_ble_eq_true rfl) (Nat.le_of_ble_eq_true rfl) rfl ⟨_, rfl, ⟨dq_dec hi (Int32.not_lt.mpr c_4), rfl, rfl⟩⟩
  · refine g_iload_n C dJ3_dec_7 rfl 1 rfl ?_
    refine g_iconst C dJ3_dec_8 kc_1 ?_
    refine g_isubN C dJ3_dec_9 (by omega) ?_
    refine g_istore_n (lv' := [(0, _), (1, _)]) C dJ3_dec_10 rfl (by decide) rfl ?_
    refine g_iload_n C dJ3_dec_11 rfl 0 rfl ?_
    exact g_iret C hr hlk dJ3_dec_12 (Nat.le_of_ble_eq_true rfl) (Nat.le_of_ble_eq_true rfl) rfl ⟨_, rfl, ⟨dq_dec0 hi (Int32.not_le.mp c_4), rfl, rfl⟩⟩
theorem ok_J3_sub : yJ3_sub.cls ≠ "java/lang/invoke/MethodHandle" ∧ yJ3_sub.cls ≠ "java/lang/invoke/VarHandle" ∧ (parseMethodDescriptor yJ3_sub.desc).map (fun d => d.parameters.length) = some 3 := by decide +kernel
set_option maxHeartbeats 4000000 in
set_option maxRecDepth 100000 in
theorem met_J3_sub {l : Launch} {D : va_G} {b0 n : Nat} {h : GH} {i j : Nat} (hi : i < 17) (hj : j < 17) : gMet l yJ3_sub cJ3_sub 3 ((some .int)) 0 0 0 0 D b0 h n [.int (nI i), .int (nI j), .int (nI 17)] (pI (fun r' h' n' => nI ((i + 17 - j) % 17) = r' ∧ h = h' ∧ n = n')) := by
  refine gMet.of (lv := [(0, _), (1, _), (2, _)]) (by decide) (Nat.le_of_ble_eq_true rfl) rfl ?_
  intro p_ e_ U0 m_ args_ below_ meth_ co_ C hr hlk hnm
  refine g_iload_n C dJ3_sub_0 rfl 0 rfl ?_
  refine g_iload_n C dJ3_sub_1 rfl 1 rfl ?_
  refine g_isub C dJ3_sub_2 ?_
  refine g_dup C dJ3_sub_3 rfl ?_
  refine g_istore_n (lv' := [(0, _), (1, _), (2, _)]) C dJ3_sub_4 rfl (by decide) rfl ?_
  refine g_if_ge (tgt := 12) C dJ3_sub_5 (by decide) (fun c_5 => ?_) (fun c_5 => ?_)
  · refine g_iload_n C dJ3_sub_12 rfl 0 rfl ?_
    exact g_iret C hr hlk dJ3_sub_13 (Nat.le_of_ble_eq_true rfl) (Nat.le_of_ble_eq_true rfl) rfl ⟨_, rfl, ⟨dq_sub hi hj (Int32.not_lt.mpr c_5), rfl, rfl⟩⟩
  · refine g_iload_n C dJ3_sub_8 rfl 0 rfl ?_
    refine g_iload_n C dJ3_sub_9 rfl 2 rfl ?_
    refine g_iadd C dJ3_sub_10 ?_
    refine g_istore_n (lv' := [(0, _), (1, _), (2, _)]) C dJ3_sub_11 rfl (by decide) rfl ?_
    refine g_iload_n C dJ3_sub_12 rfl 0 rfl ?_
    exact g_iret C hr hlk dJ3_sub_13 (Nat.le_of_ble_eq_true rfl) (Nat.le_of_ble_eq_true rfl) rfl ⟨_, rfl, ⟨dq_sub0 hi hj (Int32.not_le.mp c_5), rfl, rfl⟩⟩
theorem ok_J3_elementAt : yJ3_elementAt.cls ≠ "java/lang/invoke/MethodHandle" ∧ yJ3_elementAt.cls ≠ "java/lang/invoke/VarHandle" ∧ (parseMethodDescriptor yJ3_elementAt.desc).map (fun d => d.parameters.length) = some 2 := by decide +kernel
set_option maxHeartbeats 4000000 in
set_option maxRecDepth 100000 in
theorem met_J3_elementAt {l : Launch} {D : va_G} {b0 n : Nat} {h : GH} {arr i x : Nat} {F : Nat → Option Nat} (hE : h arr = gP D 102 17 F) (hi : i < 17) (hx : F i = some x) : gMet l yJ3_elementAt cJ3_elementAt 2 ((some (.object "java/lang/Object"))) 0 0 0 0 D b0 h n [.ref arr, .int (nI i)] (pR (fun r' h' n' => x = r' ∧ h = h' ∧ n = n')) := by
  refine gMet.of (lv := [(0, _), (1, _)]) (by decide) (Nat.le_of_ble_eq_true rfl) rfl ?_
  intro p_ e_ U0 m_ args_ below_ meth_ co_ C hr hlk hnm
  refine g_aload_n C dJ3_elementAt_0 rfl 0 rfl ?_
  refine g_iload_n C dJ3_elementAt_1 rfl 1 rfl ?_
  refine g_aald (t0 := 2) (v := .ref x) C hE rfl rfl (by omega) (by omega) (by rw [hx]; rfl) dJ3_elementAt_2 ?_
  exact g_aret C hr hlk dJ3_elementAt_3 (Or.inl ⟨_, rfl⟩) (Or.inr ⟨_, rfl⟩) (Nat.le_of_ble_eq_true rfl) (Nat.le_of_ble_eq_true rfl) ⟨_, rfl, ⟨rfl, rfl, rfl⟩⟩
theorem ok_J3_size : yJ3_size.cls = "java/util/ArrayDeque" ∧ yJ3_size.cls ≠ "java/lang/invoke/MethodHandle" ∧ yJ3_size.cls ≠ "java/lang/invoke/VarHandle" ∧ (parseMethodDescriptor yJ3_size.desc).map (fun d => d.parameters.length) = some 0 := by decide +kernel
set_option maxHeartbeats 4000000 in
set_option maxRecDepth 100000 in
theorem met_J3_size {l : Launch} {D : va_G} {b0 n : Nat} {h : GH} {a arr hd k : Nat} {F : Nat → Option Nat} {f : Nat → Nat} (L : DqAt D b0 h a arr hd k F f) : gMet l yJ3_size cJ3_size 1 ((some .int)) 1 22 0 0 D b0 h n [.ref a] (pI (fun r' h' n' => nI k = r' ∧ h = h' ∧ n = n')) := by
  refine gMet.of (lv := [(0, _)]) (by decide) (Nat.le_of_ble_eq_true rfl) rfl ?_
  intro p_ e_ U0 m_ args_ below_ meth_ co_ C hr hlk hnm
  have hne := L.ne
  obtain ⟨hA, hE, h17, hk5, hga, hge, hf⟩ := id L
  refine g_aload_n C dJ3_size_0 rfl 0 rfl ?_
  refine g_get C in_J3 hA rfl 2 (by decide) q171 (fun _ hx => hx) rfl dJ3_size_1 ?_
  refine g_aload_n C dJ3_size_4 rfl 0 rfl ?_
  refine g_get C in_J3 hA rfl 1 (by decide) q170 (fun _ hx => hx) rfl dJ3_size_5 ?_
  refine g_aload_n C dJ3_size_8 rfl 0 rfl ?_
  refine g_get C in_J3 hA rfl 0 (by decide) q169 (fun _ hx => hx) rfl dJ3_size_9 ?_
  refine g_alen (t0 := 2) (v := nI 17) C hE rfl rfl dJ3_size_12 ?_
  refine g_S3I C (met_J3_sub (by omega) (by omega)) (va_cwS 3 C.2.2.2.2.1 (lw_S q398 q399 q68 q400) rfl rfl rfl ok_J3_sub ⟨(Nat.le_of_ble_eq_true rfl), (Nat.le_of_ble_eq_true rfl)⟩) (Nat.le_of_ble_eq_true rfl) dJ3_size_13 ⟨(Nat.le_of_ble_eq_true rfl), (Nat.le_of_ble_eq_true rfl)⟩ (fun r_13 h_13 n_13 hp_13 hn_13 => ?_)
  obtain ⟨rfl, rfl, rfl⟩ := hp_13
  exact g_iret C hr hlk dJ3_size_16 (Nat.le_of_ble_eq_true rfl) (Nat.le_of_ble_eq_true rfl) rfl ⟨_, rfl, ⟨by rw [show ((hd + k) % 17 + 17 - hd) % 17 = k by omega], rfl, rfl⟩⟩
theorem ok_J3_isEmpty : yJ3_isEmpty.cls = "java/util/ArrayDeque" ∧ yJ3_isEmpty.cls ≠ "java/lang/invoke/MethodHandle" ∧ yJ3_isEmpty.cls ≠ "java/lang/invoke/VarHandle" ∧ (parseMethodDescriptor yJ3_isEmpty.desc).map (fun d => d.parameters.length) = some 0 := by decide +kernel
set_option maxHeartbeats 4000000 in
set_option maxRecDepth 100000 in
theorem met_J3_isEmpty {l : Launch} {D : va_G} {b0 n : Nat} {h : GH} {a arr hd k : Nat} {F : Nat → Option Nat} {f : Nat → Nat} (L : DqAt D b0 h a arr hd k F f) : gMet l yJ3_isEmpty cJ3_isEmpty 1 ((some .boolean)) 0 0 0 0 D b0 h n [.ref a] (pI (fun r' h' n' => bI (decide (k = 0)) = r' ∧ h = h' ∧ n = n')) := by
  refine gMet.of (lv := [(0, _)]) (by decide) (Nat.le_of_ble_eq_true rfl) rfl ?_
  intro p_ e_ U0 m_ args_ below_ meth_ co_ C hr hlk hnm
  have hne := L.ne
  obtain ⟨hA, hE, h17, hk5, hga, hge, hf⟩ := id L
  refine g_aload_n C dJ3_isEmpty_0 rfl 0 rfl ?_
  refine g_get C in_J3 hA rfl 1 (by decide) q170 (fun _ hx => hx) rfl dJ3_isEmpty_1 ?_
  refine g_aload_n C dJ3_isEmpty_4 rfl 0 rfl ?_
  refine g_get C in_J3 hA rfl 2 (by decide) q171 (fun _ hx => hx) rfl dJ3_isEmpty_5 ?_
  refine g_icmp_neN (tgt := 15) C dJ3_isEmpty_8 (by decide) (by omega) (by omega) (fun c_8 => ?_) (fun c_8 => ?_)
  · refine g_iconst C dJ3_isEmpty_15 kc_0 ?_
    exact g_iret C hr hlk dJ3_isEmpty_16 (Nat.le_of_ble_eq_true rfl) (Nat.le_of_ble_eq_true rfl) rfl ⟨_, rfl, ⟨by first | exact (bI_t (decide_eq_true (by omega))).symm | exact (bI_f (decide_eq_false (by omega))).symm, rfl, rfl⟩⟩
  · refine g_iconst C dJ3_isEmpty_11 kc_1 ?_
    refine g_goto (tgt := 16) C dJ3_isEmpty_12 (by decide) ?_
    exact g_iret C hr hlk dJ3_isEmpty_16 (Nat.le_of_ble_eq_true rfl) (Nat.le_of_ble_eq_true rfl) rfl ⟨_, rfl, ⟨by first | exact (bI_t (decide_eq_true (by omega))).symm | exact (bI_f (decide_eq_false (by omega))).symm, rfl, rfl⟩⟩
def DqP (D : va_G) (b0 : Nat) (h : GH) (a arr hd k : Nat) (f : Nat → Nat) (h' : GH) : Prop := (∃ F', DqAt D b0 h' a arr hd k F' f) ∧ ∀ q, q ≠ a → q ≠ arr → h' q = h q
theorem ok_J3_addLast : yJ3_addLast.cls = "java/util/ArrayDeque" ∧ yJ3_addLast.cls ≠ "java/lang/invoke/MethodHandle" ∧ yJ3_addLast.cls ≠ "java/lang/invoke/VarHandle" ∧ (parseMethodDescriptor yJ3_addLast.desc).map (fun d => d.parameters.length) = some 1 := by decide +kernel
set_option maxHeartbeats 4000000 in
set_option maxRecDepth 100000 in
theorem met_J3_addLast {l : Launch} {D : va_G} {b0 n : Nat} {h : GH} {a arr hd k : Nat} {F : Nat → Option Nat} {f : Nat → Nat} {v : Nat} (L : DqAt D b0 h a arr hd k F f) (hv : gObj h v) (hk : k ≤ 4) : gMet l yJ3_addLast cJ3_addLast 3 (none) 1 21 0 0 D b0 h n [.ref a, .ref v] (pV (fun h' n' => DqP D b0 h a arr hd (k + 1) (va_up f k v) h' ∧ n = n')) := by
  refine gMet.of (lv := [(0, _), (1, _)]) (by decide) (Nat.le_of_ble_eq_true rfl) rfl ?_
  intro p_ e_ U0 m_ args_ below_ meth_ co_ C hr hlk hnm
  have hne := L.ne
  obtain ⟨hA, hE, h17, hk5, hga, hge, hf⟩ := id L
  refine g_aload_n C dJ3_addLast_0 rfl 1 rfl ?_
  refine g_ifnonnull (tgt := 12) C dJ3_addLast_1 (by decide) ?_
  refine g_aload_n C dJ3_addLast_12 rfl 0 rfl ?_
  refine g_get C in_J3 hA rfl 0 (by decide) q169 (fun _ hx => hx) rfl dJ3_addLast_13 ?_
  refine g_astore_n (lv' := [(2, _), (0, _), (1, _)]) C dJ3_addLast_16 rfl (by decide) rfl ?_
  refine g_aload_n C dJ3_addLast_17 rfl 0 rfl ?_
  refine g_aload_n C dJ3_addLast_18 rfl 1 rfl ?_
  refine g_get C in_J3 hA rfl 2 (by decide) q171 (fun _ hx => hx) rfl dJ3_addLast_19 ?_
  refine g_aload_n C dJ3_addLast_22 rfl 2 rfl ?_
  refine g_aastG C hE hge hv (by omega) (by omega) rfl dJ3_addLast_23 ?_
  refine g_opq (fun h23 e23 o23 => ?_)
  refine g_aload_n C dJ3_addLast_24 rfl 1 rfl ?_
  refine g_get C in_J3 ((o23 _ (by first | assumption | omega)).trans hA) rfl 1 (by decide) q170 (fun _ hx => hx) rfl dJ3_addLast_25 ?_
  refine g_aload_n C dJ3_addLast_28 rfl 1 rfl ?_
  refine g_aload_n C dJ3_addLast_29 rfl 1 rfl ?_
  refine g_get C in_J3 ((o23 _ (by first | assumption | omega)).trans hA) rfl 2 (by decide) q171 (fun _ hx => hx) rfl dJ3_addLast_30 ?_
  refine g_aload_n C dJ3_addLast_33 rfl 0 rfl ?_
  refine g_alen (t0 := 2) (v := nI 17) C e23 rfl rfl dJ3_addLast_34 ?_
  refine g_S2I C (met_J3_inc (by omega)) (va_cwS 2 C.2.2.2.2.1 (lw_S q379 q380 q68 q381) rfl rfl rfl ok_J3_inc ⟨(Nat.le_of_ble_eq_true rfl), (Nat.le_of_ble_eq_true rfl)⟩) (Nat.le_of_ble_eq_true rfl) dJ3_addLast_35 ⟨(Nat.le_of_ble_eq_true rfl), (Nat.le_of_ble_eq_true rfl)⟩ (fun r_35 h_35 n_35 hp_35 hn_35 => ?_)
  obtain ⟨rfl, rfl, rfl⟩ := hp_35
  refine g_dup_x1 C dJ3_addLast_38 rfl rfl ?_
  refine g_put C in_J3 tyJ3 tyJ3_ok nmJ3 ((o23 _ (by first | assumption | omega)).trans hA) hga rfl 2 (by decide) q171 (fun _ hx => hx) rfl rfl rfl rfl (Nat.le_of_ble_eq_true rfl) rfl dJ3_addLast_39 ?_
  refine g_opq (fun h39 e39 o39 => ?_)
  refine g_icmp_neN (tgt := 50) C dJ3_addLast_42 (by decide) (by omega) (by omega) (fun c_42 => ?_) (fun c_42 => absurd c_42 (by omega))
  exact g_vret C hr hlk dJ3_addLast_50 (Nat.le_of_ble_eq_true rfl) (Nat.le_of_ble_eq_true rfl) ⟨rfl, ⟨⟨_, ⟨e39.trans (by rw [show ((hd + k) % 17 + 1) % 17 = (hd + (k + 1)) % 17 by omega]; rfl), (o39 _ hne).trans e23, h17, by omega, hga, hge, dq_up hf hk⟩⟩, fun q q1 q2 => (o39 _ q1).trans (o23 _ q2)⟩, rfl⟩
theorem ok_J3_pollFirst : yJ3_pollFirst.cls = "java/util/ArrayDeque" ∧ yJ3_pollFirst.cls ≠ "java/lang/invoke/MethodHandle" ∧ yJ3_pollFirst.cls ≠ "java/lang/invoke/VarHandle" ∧ (parseMethodDescriptor yJ3_pollFirst.desc).map (fun d => d.parameters.length) = some 0 := by decide +kernel
set_option maxHeartbeats 4000000 in
set_option maxRecDepth 100000 in
theorem met_J3_pollFirst {l : Launch} {D : va_G} {b0 n : Nat} {h : GH} {a arr hd k : Nat} {F : Nat → Option Nat} {f : Nat → Nat} (L : DqAt D b0 h a arr hd (k + 1) F f) : gMet l yJ3_pollFirst cJ3_pollFirst 4 ((some (.object "java/lang/Object"))) 1 21 0 0 D b0 h n [.ref a] (pR (fun r' h' n' => f 0 = r' ∧ DqP D b0 h a arr ((hd + 1) % 17) k (fun i => f (i + 1)) h' ∧ n = n')) := by
  refine gMet.of (lv := [(0, _)]) (by decide) (Nat.le_of_ble_eq_true rfl) rfl ?_
  intro p_ e_ U0 m_ args_ below_ meth_ co_ C hr hlk hnm
  have hne := L.ne
  obtain ⟨hA, hE, h17, hk5, hga, hge, hf⟩ := id L
  have hne2 := Ne.symm hne
  refine g_aload_n C dJ3_pollFirst_0 rfl 0 rfl ?_
  refine g_get C in_J3 hA rfl 0 (by decide) q169 (fun _ hx => hx) rfl dJ3_pollFirst_1 ?_
  refine g_dup C dJ3_pollFirst_4 rfl ?_
  refine g_astore_n (lv' := [(1, _), (0, _)]) C dJ3_pollFirst_5 rfl (by decide) rfl ?_
  refine g_aload_n C dJ3_pollFirst_6 rfl 1 rfl ?_
  refine g_get C in_J3 hA rfl 1 (by decide) q170 (fun _ hx => hx) rfl dJ3_pollFirst_7 ?_
  refine g_dup C dJ3_pollFirst_10 rfl ?_
  refine g_istore_n (lv' := [(2, _), (1, _), (0, _)]) C dJ3_pollFirst_11 rfl (by decide) rfl ?_
  refine g_S2R C (met_J3_elementAt hE h17 (show F hd = some (f 0) by have := hf 0 (by omega); rwa [show (hd + 0) % 17 = hd by omega] at this)) (va_cwS 2 C.2.2.2.2.1 (lw_S q409 q410 q68 q411) rfl rfl rfl ok_J3_elementAt ⟨(Nat.le_of_ble_eq_true rfl), (Nat.le_of_ble_eq_true rfl)⟩) (Nat.le_of_ble_eq_true rfl) dJ3_pollFirst_12 ⟨(Nat.le_of_ble_eq_true rfl), (Nat.le_of_ble_eq_true rfl)⟩ (fun r_12 h_12 n_12 hp_12 hn_12 => ?_)
  obtain ⟨rfl, rfl, rfl⟩ := hp_12
  refine g_astore_n (lv' := [(3, _), (2, _), (1, _), (0, _)]) C dJ3_pollFirst_15 rfl (by decide) rfl ?_
  refine g_aload_n C dJ3_pollFirst_16 rfl 0 rfl ?_
  refine g_ifnull C dJ3_pollFirst_17 ?_
  refine g_aload_n C dJ3_pollFirst_20 rfl 2 rfl ?_
  refine g_iload_n C dJ3_pollFirst_21 rfl 1 rfl ?_
  refine g_null C dJ3_pollFirst_22 ?_
  refine g_aastN (t0 := 2) C hE hge rfl (by omega) (by omega) rfl dJ3_pollFirst_23 ?_
  refine g_opq (fun h23 e23 o23 => ?_)
  refine g_aload_n C dJ3_pollFirst_24 rfl 3 rfl ?_
  refine g_iload_n C dJ3_pollFirst_25 rfl 1 rfl ?_
  refine g_aload_n C dJ3_pollFirst_26 rfl 2 rfl ?_
  refine g_alen (t0 := 2) (v := nI 17) C e23 rfl rfl dJ3_pollFirst_27 ?_
  refine g_S2I C (met_J3_inc (by omega)) (va_cwS 2 C.2.2.2.2.1 (lw_S q379 q380 q68 q381) rfl rfl rfl ok_J3_inc ⟨(Nat.le_of_ble_eq_true rfl), (Nat.le_of_ble_eq_true rfl)⟩) (Nat.le_of_ble_eq_true rfl) dJ3_pollFirst_28 ⟨(Nat.le_of_ble_eq_true rfl), (Nat.le_of_ble_eq_true rfl)⟩ (fun r_28 h_28 n_28 hp_28 hn_28 => ?_)
  obtain ⟨rfl, rfl, rfl⟩ := hp_28
  refine g_put C in_J3 tyJ3 tyJ3_ok nmJ3 ((o23 _ (by first | assumption | omega)).trans hA) hga rfl 1 (by decide) q170 (fun _ hx => hx) rfl rfl rfl rfl (Nat.le_of_ble_eq_true rfl) rfl dJ3_pollFirst_31 ?_
  refine g_opq (fun h31 e31 o31 => ?_)
  refine g_aload_n C dJ3_pollFirst_34 rfl 0 rfl ?_
  exact g_aret C hr hlk dJ3_pollFirst_35 (Or.inl ⟨_, rfl⟩) (Or.inr ⟨_, rfl⟩) (Nat.le_of_ble_eq_true rfl) (Nat.le_of_ble_eq_true rfl) ⟨_, rfl, ⟨rfl, ⟨⟨_, ⟨e31.trans (by rw [show (hd + (k + 1)) % 17 = ((hd + 1) % 17 + k) % 17 by omega]; rfl), (o31 _ hne).trans e23, by omega, by omega, hga, hge, dq_first hf h17 (by omega)⟩⟩, fun q q1 q2 => (o31 _ q1).trans (o23 _ q2)⟩, rfl⟩⟩
theorem ok_J3_removeFirst : yJ3_removeFirst.cls = "java/util/ArrayDeque" ∧ yJ3_removeFirst.cls ≠ "java/lang/invoke/MethodHandle" ∧ yJ3_removeFirst.cls ≠ "java/lang/invoke/VarHandle" ∧ (parseMethodDescriptor yJ3_removeFirst.desc).map (fun d => d.parameters.length) = some 0 := by decide +kernel
set_option maxHeartbeats 4000000 in
set_option maxRecDepth 100000 in
theorem met_J3_removeFirst {l : Launch} {D : va_G} {b0 n : Nat} {h : GH} {a arr hd k : Nat} {F : Nat → Option Nat} {f : Nat → Nat} (L : DqAt D b0 h a arr hd (k + 1) F f) : gMet l yJ3_removeFirst cJ3_removeFirst 2 ((some (.object "java/lang/Object"))) 2 44 0 0 D b0 h n [.ref a] (pR (fun r' h' n' => f 0 = r' ∧ DqP D b0 h a arr ((hd + 1) % 17) k (fun i => f (i + 1)) h' ∧ n = n')) := by
  refine gMet.of (lv := [(0, _)]) (by decide) (Nat.le_of_ble_eq_true rfl) rfl ?_
  intro p_ e_ U0 m_ args_ below_ meth_ co_ C hr hlk hnm
  refine g_aload_n C dJ3_removeFirst_0 rfl 0 rfl ?_
  refine g_V0R C (met_J3_pollFirst L) (cwV 0 C.2.2.2.2.1 (lw_V q405 q406 q407 q68 q408) rfl rfl rfl ok_J3_pollFirst ⟨(Nat.le_of_ble_eq_true rfl), (Nat.le_of_ble_eq_true rfl)⟩) L.1 rfl (Nat.le_of_ble_eq_true rfl) dJ3_removeFirst_1 ⟨(Nat.le_of_ble_eq_true rfl), (Nat.le_of_ble_eq_true rfl)⟩ (fun r_1 h_1 n_1 hp_1 hn_1 => ?_)
  refine g_astore_n (lv' := [(1, _), (0, _)]) C dJ3_removeFirst_4 rfl (by decide) rfl ?_
  refine g_aload_n C dJ3_removeFirst_5 rfl 0 rfl ?_
  refine g_ifnonnull (tgt := 17) C dJ3_removeFirst_6 (by decide) ?_
  refine g_aload_n C dJ3_removeFirst_17 rfl 0 rfl ?_
  exact g_aret C hr hlk dJ3_removeFirst_18 (Or.inl ⟨_, rfl⟩) (Or.inr ⟨_, rfl⟩) (Nat.le_of_ble_eq_true rfl) (Nat.le_of_ble_eq_true rfl) ⟨_, rfl, hp_1⟩
theorem ok_J3_pollLast : yJ3_pollLast.cls = "java/util/ArrayDeque" ∧ yJ3_pollLast.cls ≠ "java/lang/invoke/MethodHandle" ∧ yJ3_pollLast.cls ≠ "java/lang/invoke/VarHandle" ∧ (parseMethodDescriptor yJ3_pollLast.desc).map (fun d => d.parameters.length) = some 0 := by decide +kernel
set_option maxHeartbeats 4000000 in
set_option maxRecDepth 100000 in
theorem met_J3_pollLast {l : Launch} {D : va_G} {b0 n : Nat} {h : GH} {a arr hd k : Nat} {F : Nat → Option Nat} {f : Nat → Nat} (L : DqAt D b0 h a arr hd (k + 1) F f) : gMet l yJ3_pollLast cJ3_pollLast 4 ((some (.object "java/lang/Object"))) 1 21 0 0 D b0 h n [.ref a] (pR (fun r' h' n' => f k = r' ∧ DqP D b0 h a arr hd k f h' ∧ n = n')) := by
  refine gMet.of (lv := [(0, _)]) (by decide) (Nat.le_of_ble_eq_true rfl) rfl ?_
  intro p_ e_ U0 m_ args_ below_ meth_ co_ C hr hlk hnm
  have hne := L.ne
  obtain ⟨hA, hE, h17, hk5, hga, hge, hf⟩ := id L
  have hne2 := Ne.symm hne
  refine g_aload_n C dJ3_pollLast_0 rfl 0 rfl ?_
  refine g_get C in_J3 hA rfl 0 (by decide) q169 (fun _ hx => hx) rfl dJ3_pollLast_1 ?_
  refine g_dup C dJ3_pollLast_4 rfl ?_
  refine g_astore_n (lv' := [(1, _), (0, _)]) C dJ3_pollLast_5 rfl (by decide) rfl ?_
  refine g_aload_n C dJ3_pollLast_6 rfl 1 rfl ?_
  refine g_get C in_J3 hA rfl 2 (by decide) q171 (fun _ hx => hx) rfl dJ3_pollLast_7 ?_
  refine g_aload_n C dJ3_pollLast_10 rfl 0 rfl ?_
  refine g_alen (t0 := 2) (v := nI 17) C hE rfl rfl dJ3_pollLast_11 ?_
  refine g_S2I C (met_J3_dec (by omega)) (va_cwS 2 C.2.2.2.2.1 (lw_S q678 q679 q68 q680) rfl rfl rfl ok_J3_dec ⟨(Nat.le_of_ble_eq_true rfl), (Nat.le_of_ble_eq_true rfl)⟩) (Nat.le_of_ble_eq_true rfl) dJ3_pollLast_12 ⟨(Nat.le_of_ble_eq_true rfl), (Nat.le_of_ble_eq_true rfl)⟩ (fun r_12 h_12 n_12 hp_12 hn_12 => ?_)
  obtain ⟨rfl, rfl, rfl⟩ := hp_12
  refine g_dup C dJ3_pollLast_15 rfl ?_
  refine g_istore_n (lv' := [(2, _), (1, _), (0, _)]) C dJ3_pollLast_16 rfl (by decide) rfl ?_
  refine g_S2R C (met_J3_elementAt hE (by omega) (show F (((hd + (k + 1)) % 17 + 16) % 17) = some (f k) by have := hf k (by omega); rwa [show (hd + k) % 17 = ((hd + (k + 1)) % 17 + 16) % 17 by omega] at this)) (va_cwS 2 C.2.2.2.2.1 (lw_S q409 q410 q68 q411) rfl rfl rfl ok_J3_elementAt ⟨(Nat.le_of_ble_eq_true rfl), (Nat.le_of_ble_eq_true rfl)⟩) (Nat.le_of_ble_eq_true rfl) dJ3_pollLast_17 ⟨(Nat.le_of_ble_eq_true rfl), (Nat.le_of_ble_eq_true rfl)⟩ (fun r_17 h_17 n_17 hp_17 hn_17 => ?_)
  obtain ⟨rfl, rfl, rfl⟩ := hp_17
  refine g_astore_n (lv' := [(3, _), (2, _), (1, _), (0, _)]) C dJ3_pollLast_20 rfl (by decide) rfl ?_
  refine g_aload_n C dJ3_pollLast_21 rfl 0 rfl ?_
  refine g_ifnull C dJ3_pollLast_22 ?_
  refine g_aload_n C dJ3_pollLast_25 rfl 2 rfl ?_
  refine g_aload_n C dJ3_pollLast_26 rfl 3 rfl ?_
  refine g_iload_n C dJ3_pollLast_27 rfl 1 rfl ?_
  refine g_dup_x1 C dJ3_pollLast_28 rfl rfl ?_
  refine g_put C in_J3 tyJ3 tyJ3_ok nmJ3 hA hga rfl 2 (by decide) q171 (fun _ hx => hx) rfl rfl rfl rfl (Nat.le_of_ble_eq_true rfl) rfl dJ3_pollLast_29 ?_
  refine g_opq (fun h29 e29 o29 => ?_)
  refine g_null C dJ3_pollLast_32 ?_
  refine g_aastN (t0 := 2) C ((o29 _ (by first | assumption | omega)).trans hE) hge rfl (by omega) (by omega) rfl dJ3_pollLast_33 ?_
  refine g_opq (fun h33 e33 o33 => ?_)
  refine g_aload_n C dJ3_pollLast_34 rfl 0 rfl ?_
  exact g_aret C hr hlk dJ3_pollLast_35 (Or.inl ⟨_, rfl⟩) (Or.inr ⟨_, rfl⟩) (Nat.le_of_ble_eq_true rfl) (Nat.le_of_ble_eq_true rfl) ⟨_, rfl, ⟨rfl, ⟨⟨_, ⟨((o33 _ (Ne.symm hne)).trans e29).trans (by rw [show ((hd + (k + 1)) % 17 + 16) % 17 = (hd + k) % 17 by omega]; rfl), e33, h17, by omega, hga, hge, dq_last hf h17 (by omega)⟩⟩, fun q q1 q2 => (o33 _ q2).trans (o29 _ q1)⟩, rfl⟩⟩
theorem ok_J3_removeLast : yJ3_removeLast.cls = "java/util/ArrayDeque" ∧ yJ3_removeLast.cls ≠ "java/lang/invoke/MethodHandle" ∧ yJ3_removeLast.cls ≠ "java/lang/invoke/VarHandle" ∧ (parseMethodDescriptor yJ3_removeLast.desc).map (fun d => d.parameters.length) = some 0 := by decide +kernel
set_option maxHeartbeats 4000000 in
set_option maxRecDepth 100000 in
theorem met_J3_removeLast {l : Launch} {D : va_G} {b0 n : Nat} {h : GH} {a arr hd k : Nat} {F : Nat → Option Nat} {f : Nat → Nat} (L : DqAt D b0 h a arr hd (k + 1) F f) : gMet l yJ3_removeLast cJ3_removeLast 2 ((some (.object "java/lang/Object"))) 2 44 0 0 D b0 h n [.ref a] (pR (fun r' h' n' => f k = r' ∧ DqP D b0 h a arr hd k f h' ∧ n = n')) := by
  refine gMet.of (lv := [(0, _)]) (by decide) (Nat.le_of_ble_eq_true rfl) rfl ?_
  intro p_ e_ U0 m_ args_ below_ meth_ co_ C hr hlk hnm
  refine g_aload_n C dJ3_removeLast_0 rfl 0 rfl ?_
  refine g_V0R C (met_J3_pollLast L) (cwV 0 C.2.2.2.2.1 (lw_V q674 q675 q676 q68 q677) rfl rfl rfl ok_J3_pollLast ⟨(Nat.le_of_ble_eq_true rfl), (Nat.le_of_ble_eq_true rfl)⟩) L.1 rfl (Nat.le_of_ble_eq_true rfl) dJ3_removeLast_1 ⟨(Nat.le_of_ble_eq_true rfl), (Nat.le_of_ble_eq_true rfl)⟩ (fun r_1 h_1 n_1 hp_1 hn_1 => ?_)
  refine g_astore_n (lv' := [(1, _), (0, _)]) C dJ3_removeLast_4 rfl (by decide) rfl ?_
  refine g_aload_n C dJ3_removeLast_5 rfl 0 rfl ?_
  refine g_ifnonnull (tgt := 17) C dJ3_removeLast_6 (by decide) ?_
  refine g_aload_n C dJ3_removeLast_17 rfl 0 rfl ?_
  exact g_aret C hr hlk dJ3_removeLast_18 (Or.inl ⟨_, rfl⟩) (Or.inr ⟨_, rfl⟩) (Nat.le_of_ble_eq_true rfl) (Nat.le_of_ble_eq_true rfl) ⟨_, rfl, hp_1⟩
theorem ok_J3_init : yJ3_init.cls ≠ "java/lang/invoke/MethodHandle" ∧ yJ3_init.cls ≠ "java/lang/invoke/VarHandle" ∧ (parseMethodDescriptor yJ3_init.desc).map (fun d => d.parameters.length) = some 0 := by decide +kernel
set_option maxHeartbeats 4000000 in
set_option maxRecDepth 100000 in
theorem met_J3_init {l : Launch} {D : va_G} {b0 n : Nat} {h : GH} {a : Nat} {v0 v1 v2 : Value} (hA : h a = gO 10 [v0, v1, v2]) (ha : b0 ≤ a) : gMet l yJ3_init cJ3_init 1 (none) 2 40 1 17 D b0 h n [.ref a] (pV (fun h' n' => (va_up (va_up h n (gP D 102 17 (fun _ => none))) a (gO 10 [.ref n, v1, v2])) = h' ∧ (n + 1) = n')) := by
  refine gMet.of (lv := [(0, _)]) (by decide) (Nat.le_of_ble_eq_true rfl) rfl ?_
  intro p_ e_ U0 m_ args_ below_ meth_ co_ C hr hlk hnm
  refine g_lt hA (fun hla => ?_)
  refine g_aload_n C dJ3_init_0 rfl 0 rfl ?_
  refine g_I0V C (met_J0_init) (cwI 0 C.2.2.2.2.1 (lw_meth q120) rfl rfl rfl (C.2.2.2.2.1 _ q65) (C.2.2.2.2.1 _ q166) (C.2.2.2.2.1 _ q119) rfl ok_J0_init ⟨(Nat.le_of_ble_eq_true rfl), (Nat.le_of_ble_eq_true rfl)⟩) (Nat.le_of_ble_eq_true rfl) dJ3_init_1 ⟨(Nat.le_of_ble_eq_true rfl), (Nat.le_of_ble_eq_true rfl)⟩ (fun h_1 n_1 hp_1 hn_1 => ?_)
  obtain ⟨rfl, rfl⟩ := hp_1
  refine g_aload_n C dJ3_init_4 rfl 0 rfl ?_
  refine g_bipush C dJ3_init_5 kb_17 ?_
  refine g_newO C q167 (by omega) (Nat.le_of_ble_eq_true rfl) (Nat.le_of_ble_eq_true rfl) dJ3_init_7 ?_
  refine g_put C in_J3 tyJ3 tyJ3_ok nmJ3 ((va_up_ne _ _ (by omega)).trans hA) ha rfl 0 (by decide) q169 (fun _ hx => hx) rfl rfl rfl rfl (Nat.le_of_ble_eq_true rfl) rfl dJ3_init_10 ?_
  exact g_vret C hr hlk dJ3_init_13 (Nat.le_of_ble_eq_true rfl) (Nat.le_of_ble_eq_true rfl) ⟨rfl, rfl, rfl⟩
