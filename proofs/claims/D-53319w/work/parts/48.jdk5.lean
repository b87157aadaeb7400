/-- Float.floatToIntBits -/
def f_bits (b : UInt32) : Int32 := if Op.cmpValue (FP.fcmp b b) .l = 0 then b.toInt32 else nI 2143289344
/-- where a letter stands in one of the four texts -/
def sIxP (i : Nat) (c r : Int32) : Prop := (∃ j, j < gSl.getD i 0 ∧ (gSb.getD i []).getD j 0 = c ∧ nI j = r) ∨ ((∀ k, k < gSl.getD i 0 → (gSb.getD i []).getD k 0 ≠ c) ∧ -1 = r)
theorem gSl_le (i : Nat) : gSl.getD i 0 ≤ 10 := by
  match i with
  | 0 => decide
  | 1 => decide
  | 2 => decide
  | 3 => decide
  | _ + 4 => exact Nat.zero_le _
theorem ch_b {c : Nat} (h : c < 128) : (nI c).toInt8.toInt32 = nI c := by
  have : ∀ c, c < 128 → (nI c).toInt8.toInt32 = nI c := by decide +kernel
  exact this c h
theorem ch_n {c : Nat} (h : c < 128) : vp_nar .byte (nI c) = nI c := by
  have : ∀ c, c < 128 → vp_nar .byte (nI c) = nI c := by decide +kernel
  exact this c h
theorem ch_f {c : Nat} (h : c < 128) : fits .byte (.int (nI c)) = true := by
  have : ∀ c, c < 128 → fits .byte (.int (nI c)) = true := by decide +kernel
  exact this c h
theorem ch_a {c : Nat} (h : c < 128) : nI c &&& nI 255 = nI c := by
  have : ∀ c, c < 128 → nI c &&& nI 255 = nI c := by decide +kernel
  exact this c h
theorem ch_c {c : Nat} (h : c < 128) : ((nI c).toUInt32 % 65536).toInt32 = nI c := by
  have : ∀ c, c < 128 → ((nI c).toUInt32 % 65536).toInt32 = nI c := by decide +kernel
  exact this c h
theorem sub_le0 {k c : Nat} (hk : k < 2 ^ 30) (hc : c < 2 ^ 30) : nI k - nI c ≤ 0 ↔ k ≤ c := by
  have e1 : (nI k - nI c).toInt = (k : Int) - c := pk_sub_toInt (by omega) (by omega)
  rw [Int32.le_iff_toInt_le, e1, Int32.toInt_zero]
  omega
/-- a StringBuilder at a: Latin-1, its bytes at va; m letters, t -/
def SbAt (D : va_G) (b0 : Nat) (h : GH) (a va cap m : Nat) (ml : Int32) (f : Nat → Int32) : Prop :=
  h a = gO 12 [.ref va, .int (nI 0), .int ml, .int (nI m)] ∧ h va = gB D cap f ∧ m ≤ cap ∧ cap ≤ 200 ∧ b0 ≤ a ∧ b0 ≤ va ∧ ∀ i, i < cap → fits .byte (.int (f i)) = true
theorem SbAt.ne {D : va_G} {b0 : Nat} {h : GH} {a va cap m : Nat} {ml : Int32} {f : Nat → Int32} (L : SbAt D b0 h a va cap m ml f) : va ≠ a := by
  intro e
  have h1 := L.1
  rw [← e, L.2.1] at h1
  cases h1
/-- behind a call that may move the bytes -/
def SbP (D : va_G) (b0 : Nat) (h : GH) (n a va m m' : Nat) (f : Nat → Int32) (P : Nat → (Nat → Int32) → Prop) (h' : GH) (n' : Nat) : Prop :=
  ∃ (va' cap' : Nat) (ml' : Int32) (f' : Nat → Int32), SbAt D b0 h' a va' cap' m' ml' f' ∧ P cap' f' ∧ (va' = va ∧ n' = n ∨ va' = n ∧ n' = n + 1) ∧ ∀ q, q ≠ a → q ≠ va' → h' q = h q
theorem sb_fit {f : Nat → Int32} {cap k : Nat} (h : ∀ i, i < cap → fits .byte (.int (f i)) = true) : ∀ i, i < k → fits .byte (.int (va_cpy f (fun _ => 0) 0 0 cap i)) = true := by
  intro i _
  unfold va_cpy
  split
  · rw [show 0 + (i - 0) = i by omega]; exact h i (by omega)
  · rfl
theorem sb_upd {f : Nat → Int32} {cap m : Nat} {x : Int32} (h : ∀ i, i < cap → fits .byte (.int (f i)) = true) (hx : fits .byte (.int x) = true) : ∀ i, i < cap → fits .byte (.int (upd f m x i)) = true := by
  intro i hi
  unfold upd
  split
  · exact hx
  · exact h i hi
theorem ch_r {c : Nat} (h : c < 128) : narrow .char (.int (nI c)) = .int (nI c) := by
  have : ∀ c, c < 128 → narrow .char (.int (nI c)) = .int (nI c) := by decide +kernel
  exact this c h
theorem ok_J15_isNaN : yJ15_isNaN.cls ≠ "java/lang/invoke/MethodHandle" ∧ yJ15_isNaN.cls ≠ "java/lang/invoke/VarHandle" ∧ (parseMethodDescriptor yJ15_isNaN.desc).map (fun d => d.parameters.length) = some 1 := by decide +kernel
set_option maxHeartbeats 4000000 in
set_option maxRecDepth 100000 in
theorem met_J15_isNaN {l : Launch} {D : va_G} {b0 n : Nat} {h : GH} {b : UInt32}  : gMet l yJ15_isNaN cJ15_isNaN 1 ((some .boolean)) 0 0 0 0 D b0 h n [.float b] (pI (fun r' h' n' => bI (decide (¬ Op.cmpValue (FP.fcmp b b) .l = 0)) = r' ∧ h = h' ∧ n = n')) := by
  refine gMet.ofF (lv := [(0, _)]) (by decide +kernel) (Nat.le_of_ble_eq_true rfl) rfl ?_
  intro p_ e_ U0 m_ args_ below_ meth_ co_ C hr hlk hnm
  refine g_fload_n C dJ15_isNaN_0 rfl 0 rfl ?_
  refine g_fload_n C dJ15_isNaN_1 rfl 0 rfl ?_
  refine g_fcmp C dJ15_isNaN_2 ?_
  refine g_if_eq (tgt := 10) C dJ15_isNaN_3 (by decide) (fun c_3 => ?_) (fun c_3 => ?_)
  · refine g_iconst C dJ15_isNaN_10 kc_0 ?_
    exact g_iret C hr hlk dJ15_isNaN_11 (Nat.le_of_ble_eq_true rfl) (Nat.le_of_ble_eq_true rfl) rfl ⟨_, rfl, ⟨by first | exact (bI_t (decide_eq_true c_3)).symm | exact (bI_f (decide_eq_false (fun e => e c_3))).symm, rfl, rfl⟩⟩
  · refine g_iconst C dJ15_isNaN_6 kc_1 ?_
    refine g_goto (tgt := 11) C dJ15_isNaN_7 (by decide) ?_
    exact g_iret C hr hlk dJ15_isNaN_11 (Nat.le_of_ble_eq_true rfl) (Nat.le_of_ble_eq_true rfl) rfl ⟨_, rfl, ⟨by first | exact (bI_t (decide_eq_true c_3)).symm | exact (bI_f (decide_eq_false (fun e => e c_3))).symm, rfl, rfl⟩⟩
theorem ok_J15_floatToIntBits : yJ15_floatToIntBits.cls ≠ "java/lang/invoke/MethodHandle" ∧ yJ15_floatToIntBits.cls ≠ "java/lang/invoke/VarHandle" ∧ (parseMethodDescriptor yJ15_floatToIntBits.desc).map (fun d => d.parameters.length) = some 1 := by decide +kernel
set_option maxHeartbeats 4000000 in
set_option maxRecDepth 100000 in
theorem met_J15_floatToIntBits {l : Launch} {D : va_G} {b0 n : Nat} {h : GH} {b : UInt32}  : gMet l yJ15_floatToIntBits cJ15_floatToIntBits 1 ((some .int)) 1 40 0 0 D b0 h n [.float b] (pI (fun r' h' n' => f_bits b = r' ∧ h = h' ∧ n = n')) := by
  refine gMet.ofF (lv := [(0, _)]) (by decide +kernel) (Nat.le_of_ble_eq_true rfl) rfl ?_
  intro p_ e_ U0 m_ args_ below_ meth_ co_ C hr hlk hnm
  refine g_fload_n C dJ15_floatToIntBits_0 rfl 0 rfl ?_
  refine g_S1I C (met_J15_isNaN) (va_cwS 1 C.2.2.2.2.1 (lw_S q778 q779 q86 q780) rfl rfl rfl ok_J15_isNaN ⟨(Nat.le_of_ble_eq_true rfl), (Nat.le_of_ble_eq_true rfl)⟩) (Nat.le_of_ble_eq_true rfl) dJ15_floatToIntBits_1 ⟨(Nat.le_of_ble_eq_true rfl), (Nat.le_of_ble_eq_true rfl)⟩ (fun r_1 h_1 n_1 hp_1 hn_1 => ?_)
  obtain ⟨rfl, rfl, rfl⟩ := hp_1
  refine g_if_neB (tgt := 12) C dJ15_floatToIntBits_4 (by decide) (fun c_4 => ?_) (fun c_4 => ?_)
  · refine g_ldc C q784 dJ15_floatToIntBits_12 ?_
    refine g_topi (y := nI 2143289344) rfl ?_
    exact g_iret C hr hlk dJ15_floatToIntBits_14 (Nat.le_of_ble_eq_true rfl) (Nat.le_of_ble_eq_true rfl) rfl ⟨_, rfl, ⟨if_neg (of_decide_eq_true c_4), rfl, rfl⟩⟩
  · refine g_fload_n C dJ15_floatToIntBits_7 rfl 0 rfl ?_
    refine g_f2bits C q781 q783 q782 q86 dJ15_floatToIntBits_8 (Nat.le_of_ble_eq_true rfl) (Nat.le_of_ble_eq_true rfl) ?_
    exact g_iret C hr hlk dJ15_floatToIntBits_11 (Nat.le_of_ble_eq_true rfl) (Nat.le_of_ble_eq_true rfl) rfl ⟨_, rfl, ⟨if_pos (Decidable.not_not.mp (of_decide_eq_false c_4)), rfl, rfl⟩⟩
theorem ok_J4_length : yJ4_length.cls = "java/lang/AbstractStringBuilder" ∧ yJ4_length.cls ≠ "java/lang/invoke/MethodHandle" ∧ yJ4_length.cls ≠ "java/lang/invoke/VarHandle" ∧ (parseMethodDescriptor yJ4_length.desc).map (fun d => d.parameters.length) = some 0 := by decide +kernel
set_option maxHeartbeats 4000000 in
set_option maxRecDepth 100000 in
theorem met_J4_length {l : Launch} {D : va_G} {b0 n : Nat} {h : GH} {a va cap m : Nat} {ml : Int32} {f : Nat → Int32} (L : SbAt D b0 h a va cap m ml f) : gMet l yJ4_length cJ4_length 1 ((some .int)) 0 0 0 0 D b0 h n [.ref a] (pI (fun r' h' n' => nI m = r' ∧ h = h' ∧ n = n')) := by
  refine gMet.of (lv := [(0, _)]) (by decide) (Nat.le_of_ble_eq_true rfl) rfl ?_
  intro p_ e_ U0 m_ args_ below_ meth_ co_ C hr hlk hnm
  have hne := L.ne
  obtain ⟨hA, hB, hm, hcap, hga, hgb, hfit⟩ := id L
  have hne2 := Ne.symm hne
  refine g_aload_n C dJ4_length_0 rfl 0 rfl ?_
  refine g_get C in_J5 hA rfl 3 (by decide) q200 (fun _ hx => hx) rfl dJ4_length_1 ?_
  exact g_iret C hr hlk dJ4_length_4 (Nat.le_of_ble_eq_true rfl) (Nat.le_of_ble_eq_true rfl) rfl ⟨_, rfl, ⟨rfl, rfl, rfl⟩⟩
theorem ok_J5_length : yJ5_length.cls = "java/lang/StringBuilder" ∧ yJ5_length.cls ≠ "java/lang/invoke/MethodHandle" ∧ yJ5_length.cls ≠ "java/lang/invoke/VarHandle" ∧ (parseMethodDescriptor yJ5_length.desc).map (fun d => d.parameters.length) = some 0 := by decide +kernel
set_option maxHeartbeats 4000000 in
set_option maxRecDepth 100000 in
theorem met_J5_length {l : Launch} {D : va_G} {b0 n : Nat} {h : GH} {a va cap m : Nat} {ml : Int32} {f : Nat → Int32} (L : SbAt D b0 h a va cap m ml f) : gMet l yJ5_length cJ5_length 1 ((some .int)) 1 20 0 0 D b0 h n [.ref a] (pI (fun r' h' n' => nI m = r' ∧ h = h' ∧ n = n')) := by
  refine gMet.of (lv := [(0, _)]) (by decide) (Nat.le_of_ble_eq_true rfl) rfl ?_
  intro p_ e_ U0 m_ args_ below_ meth_ co_ C hr hlk hnm
  have hne := L.ne
  obtain ⟨hA, hB, hm, hcap, hga, hgb, hfit⟩ := id L
  have hne2 := Ne.symm hne
  refine g_aload_n C dJ5_length_0 rfl 0 rfl ?_
  refine g_P0I C (met_J4_length L) (va_cwSU 0 C.2.2.2.2.1 (lw_app (lw_l5 q659 q1461 q209 q660 q69) (lw_meth q661)) rfl rfl rfl ⟨by decide, ok_J4_length.2.2.2⟩ ⟨(Nat.le_of_ble_eq_true rfl), (Nat.le_of_ble_eq_true rfl)⟩) hA rfl (Nat.le_of_ble_eq_true rfl) dJ5_length_1 ⟨(Nat.le_of_ble_eq_true rfl), (Nat.le_of_ble_eq_true rfl)⟩ (fun r_1 h_1 n_1 hp_1 hn_1 => ?_)
  obtain ⟨rfl, rfl, rfl⟩ := hp_1
  exact g_iret C hr hlk dJ5_length_4 (Nat.le_of_ble_eq_true rfl) (Nat.le_of_ble_eq_true rfl) rfl ⟨_, rfl, ⟨rfl, rfl, rfl⟩⟩
theorem ok_J4_isLatin1 : yJ4_isLatin1.cls = "java/lang/AbstractStringBuilder" ∧ yJ4_isLatin1.cls ≠ "java/lang/invoke/MethodHandle" ∧ yJ4_isLatin1.cls ≠ "java/lang/invoke/VarHandle" ∧ (parseMethodDescriptor yJ4_isLatin1.desc).map (fun d => d.parameters.length) = some 0 := by decide +kernel
set_option maxHeartbeats 4000000 in
set_option maxRecDepth 100000 in
theorem met_J4_isLatin1 {l : Launch} {D : va_G} {b0 n : Nat} {h : GH} {a va cap m : Nat} {ml : Int32} {f : Nat → Int32} (L : SbAt D b0 h a va cap m ml f) : gMet l yJ4_isLatin1 cJ4_isLatin1 1 ((some .boolean)) 0 0 0 0 D b0 h n [.ref a] (pI (fun r' h' n' => bI true = r' ∧ h = h' ∧ n = n')) := by
  refine gMet.of (lv := [(0, _)]) (by decide) (Nat.le_of_ble_eq_true rfl) rfl ?_
  intro p_ e_ U0 m_ args_ below_ meth_ co_ C hr hlk hnm
  have hne := L.ne
  obtain ⟨hA, hB, hm, hcap, hga, hgb, hfit⟩ := id L
  have hne2 := Ne.symm hne
  refine g_gets C C.2.2.2.2.2.2.2.2.1 q188 (fun _ hx => hx) dJ4_isLatin1_0 ?_
  refine g_if_eq (tgt := 17) C dJ4_isLatin1_3 (by decide) (fun c_3 => absurd c_3 (by decide)) (fun c_3 => ?_)
  refine g_aload_n C dJ4_isLatin1_6 rfl 0 rfl ?_
  refine g_get C in_J5 hA rfl 1 (by decide) q198 (fun _ hx => hx) rfl dJ4_isLatin1_7 ?_
  refine g_if_ne (tgt := 17) C dJ4_isLatin1_10 (by decide) (fun c_10 => absurd rfl c_10) (fun c_10 => ?_)
  refine g_iconst C dJ4_isLatin1_13 kc_1 ?_
  refine g_goto (tgt := 18) C dJ4_isLatin1_14 (by decide) ?_
  exact g_iret C hr hlk dJ4_isLatin1_18 (Nat.le_of_ble_eq_true rfl) (Nat.le_of_ble_eq_true rfl) rfl ⟨_, rfl, ⟨rfl, rfl, rfl⟩⟩
theorem ok_J14_canEncode : yJ14_canEncode.cls ≠ "java/lang/invoke/MethodHandle" ∧ yJ14_canEncode.cls ≠ "java/lang/invoke/VarHandle" ∧ (parseMethodDescriptor yJ14_canEncode.desc).map (fun d => d.parameters.length) = some 1 := by decide +kernel
set_option maxHeartbeats 4000000 in
set_option maxRecDepth 100000 in
theorem met_J14_canEncode {l : Launch} {D : va_G} {b0 n : Nat} {h : GH} {c : Nat} (hc : c < 128) : gMet l yJ14_canEncode cJ14_canEncode 1 ((some .boolean)) 0 0 0 0 D b0 h n [.int (nI c)] (pI (fun r' h' n' => bI true = r' ∧ h = h' ∧ n = n')) := by
  refine gMet.of (lv := [(0, _)]) (by decide) (Nat.le_of_ble_eq_true rfl) rfl ?_
  intro p_ e_ U0 m_ args_ below_ meth_ co_ C hr hlk hnm
  refine g_iload_n C dJ14_canEncode_0 rfl 0 rfl ?_
  refine g_sipush C dJ14_canEncode_1 ks_255 ?_
  refine g_icmp_gtN (tgt := 11) C dJ14_canEncode_4 (by decide) (by omega) (by omega) (fun c_4 => absurd c_4 (by omega)) (fun c_4 => ?_)
  refine g_iconst C dJ14_canEncode_7 kc_1 ?_
  refine g_goto (tgt := 12) C dJ14_canEncode_8 (by decide) ?_
  exact g_iret C hr hlk dJ14_canEncode_12 (Nat.le_of_ble_eq_true rfl) (Nat.le_of_ble_eq_true rfl) rfl ⟨_, rfl, ⟨rfl, rfl, rfl⟩⟩
theorem ok_J14_canEncode_2 : yJ14_canEncode_2.cls ≠ "java/lang/invoke/MethodHandle" ∧ yJ14_canEncode_2.cls ≠ "java/lang/invoke/VarHandle" ∧ (parseMethodDescriptor yJ14_canEncode_2.desc).map (fun d => d.parameters.length) = some 1 := by decide +kernel
set_option maxHeartbeats 4000000 in
set_option maxRecDepth 100000 in
theorem met_J14_canEncode_2 {l : Launch} {D : va_G} {b0 n : Nat} {h : GH} {c : Nat} (hc : c < 128) : gMet l yJ14_canEncode_2 cJ14_canEncode_2 1 ((some .boolean)) 0 0 0 0 D b0 h n [.int (nI c)] (pI (fun r' h' n' => bI true = r' ∧ h = h' ∧ n = n')) := by
  refine gMet.of (lv := [(0, _)]) (by decide) (Nat.le_of_ble_eq_true rfl) rfl ?_
  intro p_ e_ U0 m_ args_ below_ meth_ co_ C hr hlk hnm
  refine g_iload_n C dJ14_canEncode_2_0 rfl 0 rfl ?_
  refine g_if_ltN (tgt := 15) C dJ14_canEncode_2_1 (by decide) (by omega) ?_
  refine g_iload_n C dJ14_canEncode_2_4 rfl 0 rfl ?_
  refine g_sipush C dJ14_canEncode_2_5 ks_255 ?_
  refine g_icmp_gtN (tgt := 15) C dJ14_canEncode_2_8 (by decide) (by omega) (by omega) (fun c_8 => absurd c_8 (by omega)) (fun c_8 => ?_)
  refine g_iconst C dJ14_canEncode_2_11 kc_1 ?_
  refine g_goto (tgt := 16) C dJ14_canEncode_2_12 (by decide) ?_
  exact g_iret C hr hlk dJ14_canEncode_2_16 (Nat.le_of_ble_eq_true rfl) (Nat.le_of_ble_eq_true rfl) rfl ⟨_, rfl, ⟨rfl, rfl, rfl⟩⟩
theorem ok_J4_newCapacity : yJ4_newCapacity.cls = "java/lang/AbstractStringBuilder" ∧ yJ4_newCapacity.cls ≠ "java/lang/invoke/MethodHandle" ∧ yJ4_newCapacity.cls ≠ "java/lang/invoke/VarHandle" ∧ (parseMethodDescriptor yJ4_newCapacity.desc).map (fun d => d.parameters.length) = some 1 := by decide +kernel
set_option maxHeartbeats 4000000 in
set_option maxRecDepth 100000 in
theorem met_J4_newCapacity {l : Launch} {D : va_G} {b0 n : Nat} {h : GH} {a va cap m : Nat} {ml : Int32} {f : Nat → Int32} {k : Nat} (L : SbAt D b0 h a va cap m ml f) (hk : k = cap + 1) : gMet l yJ4_newCapacity cJ4_newCapacity 6 ((some .int)) 2 44 0 0 D b0 h n [.ref a, .int (nI k)] (pI (fun r' h' n' => nI (2 * cap + 2) = r' ∧ h = h' ∧ n = n')) := by
  refine gMet.of (lv := [(0, _), (1, _)]) (by decide) (Nat.le_of_ble_eq_true rfl) rfl ?_
  intro p_ e_ U0 m_ args_ below_ meth_ co_ C hr hlk hnm
  have hne := L.ne
  obtain ⟨hA, hB, hm, hcap, hga, hgb, hfit⟩ := id L
  have hne2 := Ne.symm hne
  refine g_aload_n C dJ4_newCapacity_0 rfl 0 rfl ?_
  refine g_get C in_J5 hA rfl 0 (by decide) q197 (fun _ hx => hx) rfl dJ4_newCapacity_1 ?_
  refine g_alen (t0 := 1) (v := nI cap) C hB rfl rfl dJ4_newCapacity_4 ?_
  refine g_istore_n (lv' := [(2, _), (0, _), (1, _)]) C dJ4_newCapacity_5 rfl (by decide) rfl ?_
  refine g_iload_n C dJ4_newCapacity_6 rfl 2 rfl ?_
  refine g_aload_n C dJ4_newCapacity_7 rfl 1 rfl ?_
  refine g_get C in_J5 hA rfl 1 (by decide) q198 (fun _ hx => hx) rfl dJ4_newCapacity_8 ?_
  refine g_ishl C dJ4_newCapacity_11 ?_
  refine g_topi (y := nI (k)) (sb_shl0 _) ?_
  refine g_istore_n (lv' := [(3, _), (2, _), (0, _), (1, _)]) C dJ4_newCapacity_12 rfl (by decide) rfl ?_
  refine g_iload_n C dJ4_newCapacity_13 rfl 0 rfl ?_
  refine g_iload_n C dJ4_newCapacity_14 rfl 1 rfl ?_
  refine g_isubN C dJ4_newCapacity_15 (by omega) ?_
  refine g_istore (lv' := [(4, _), (3, _), (2, _), (0, _), (1, _)]) C dJ4_newCapacity_16 (by decide) rfl ?_
  refine g_iload_n C dJ4_newCapacity_18 rfl 2 rfl ?_
  refine g_iload C dJ4_newCapacity_19 0 rfl ?_
  refine g_iload_n C dJ4_newCapacity_21 rfl 2 rfl ?_
  refine g_iconst C dJ4_newCapacity_22 kc_2 ?_
  refine g_aload_n C dJ4_newCapacity_23 rfl 3 rfl ?_
  refine g_get C in_J5 hA rfl 1 (by decide) q198 (fun _ hx => hx) rfl dJ4_newCapacity_24 ?_
  refine g_ishl C dJ4_newCapacity_27 ?_
  refine g_topi (y := nI (2)) (sb_shl0 _) ?_
  refine g_iaddN C dJ4_newCapacity_28 ?_
  refine g_S3I C (met_J8_newLength (by omega) (by omega) (by omega)) (va_cwS 3 C.2.2.2.2.1 (lw_S q821 q273 q74 q274) rfl rfl rfl ok_J8_newLength ⟨(Nat.le_of_ble_eq_true rfl), (Nat.le_of_ble_eq_true rfl)⟩) (Nat.le_of_ble_eq_true rfl) dJ4_newCapacity_29 ⟨(Nat.le_of_ble_eq_true rfl), (Nat.le_of_ble_eq_true rfl)⟩ (fun r_29 h_29 n_29 hp_29 hn_29 => ?_)
  obtain ⟨rfl, rfl, rfl⟩ := hp_29
  refine g_topi (y := nI (2 * cap + 2)) (by rw [show cap + max (k - cap) (cap + 2) = 2 * cap + 2 by omega]) ?_
  refine g_istore (lv' := [(5, _), (4, _), (3, _), (2, _), (0, _), (1, _)]) C dJ4_newCapacity_32 (by decide) rfl ?_
  refine g_iload C dJ4_newCapacity_34 0 rfl ?_
  refine g_ldc C q822 dJ4_newCapacity_36 ?_
  refine g_topi (y := nI 2147483647) rfl ?_
  refine g_icmp_neN (tgt := 51) C dJ4_newCapacity_38 (by decide) (by omega) (by omega) (fun c_38 => ?_) (fun c_38 => absurd c_38 (by omega))
  refine g_iload C dJ4_newCapacity_51 0 rfl ?_
  refine g_aload_n C dJ4_newCapacity_53 rfl 4 rfl ?_
  refine g_get C in_J5 hA rfl 1 (by decide) q198 (fun _ hx => hx) rfl dJ4_newCapacity_54 ?_
  refine g_ishr C dJ4_newCapacity_57 ?_
  refine g_topi (y := nI (2 * cap + 2)) (sb_shr0 _) ?_
  exact g_iret C hr hlk dJ4_newCapacity_58 (Nat.le_of_ble_eq_true rfl) (Nat.le_of_ble_eq_true rfl) rfl ⟨_, rfl, ⟨rfl, rfl, rfl⟩⟩
theorem ok_J10_copyOf_3 : yJ10_copyOf_3.cls ≠ "java/lang/invoke/MethodHandle" ∧ yJ10_copyOf_3.cls ≠ "java/lang/invoke/VarHandle" ∧ (parseMethodDescriptor yJ10_copyOf_3.desc).map (fun d => d.parameters.length) = some 2 := by decide +kernel
set_option maxHeartbeats 4000000 in
set_option maxRecDepth 100000 in
theorem met_J10_copyOf_3 {l : Launch} {D : va_G} {b0 n : Nat} {h : GH} {va cap k : Nat} {f : Nat → Int32} (hB : h va = gB D cap f) (hfit : ∀ i, i < cap → fits .byte (.int (f i)) = true) (hk : cap < k) (hk2 : k ≤ 210) : gMet l yJ10_copyOf_3 cJ10_copyOf_3 3 ((some (.array .byte))) 1 60 1 210 D b0 h n [.ref va, .int (nI k)] (pR (fun r' h' n' => n = r' ∧ (va_up h n (gB D k (va_cpy f (fun _ => 0) 0 0 cap))) = h' ∧ (n + 1) = n')) := by
  refine gMet.of (lv := [(0, _), (1, _)]) (by decide) (Nat.le_of_ble_eq_true rfl) rfl ?_
  intro p_ e_ U0 m_ args_ below_ meth_ co_ C hr hlk hnm
  refine g_lt hB (fun hlt => ?_)
  refine g_size C (fun hb0 => ?_)
  refine g_iload_n C dJ10_copyOf_3_0 rfl 1 rfl ?_
  refine g_aload_n C dJ10_copyOf_3_1 rfl 0 rfl ?_
  refine g_alen (t0 := 1) (v := nI cap) C hB rfl rfl dJ10_copyOf_3_2 ?_
  refine g_icmp_neN (tgt := 14) C dJ10_copyOf_3_3 (by decide) (by omega) (by omega) (fun c_3 => ?_) (fun c_3 => absurd c_3 (by omega))
  refine g_iload_n C dJ10_copyOf_3_14 rfl 1 rfl ?_
  refine g_newb C (by omega) (by show _ ≤ 1; omega) (by show _ ≤ 210; omega) dJ10_copyOf_3_15 ?_
  refine g_astore_n (lv' := [(2, _), (0, _), (1, _)]) C dJ10_copyOf_3_17 rfl (by decide) rfl ?_
  refine g_aload_n C dJ10_copyOf_3_18 rfl 1 rfl ?_
  refine g_iconst C dJ10_copyOf_3_19 kc_0 ?_
  refine g_aload_n C dJ10_copyOf_3_20 rfl 0 rfl ?_
  refine g_iconst C dJ10_copyOf_3_21 kc_0 ?_
  refine g_aload_n C dJ10_copyOf_3_22 rfl 1 rfl ?_
  refine g_alen (t0 := 1) (v := nI cap) C ((va_up_ne _ _ (by omega)).trans hB) rfl rfl dJ10_copyOf_3_23 ?_
  refine g_iload_n C dJ10_copyOf_3_24 rfl 2 rfl ?_
  refine g_S2I C (met_J9_min (by omega) (by omega)) (va_cwS 2 C.2.2.2.2.1 (lw_S q308 q309 q75 q310) rfl rfl rfl ok_J9_min ⟨(Nat.le_of_ble_eq_true rfl), (Nat.le_of_ble_eq_true rfl)⟩) (Nat.le_of_ble_eq_true rfl) dJ10_copyOf_3_25 ⟨(by show _ ≤ 1; omega), (by show _ ≤ 210; omega)⟩ (fun r_25 h_25 n_25 hp_25 hn_25 => ?_)
  obtain ⟨rfl, rfl, rfl⟩ := hp_25
  refine g_topi (y := nI cap) (by rw [Nat.min_eq_left (by omega)]) ?_
  refine g_copyB C q311 ((va_up_ne _ _ (by omega)).trans hB) (va_up_self _ _ _) hb0 (by omega) (by omega) (by omega) (by omega) (fun i hi => by rw [Nat.zero_add]; exact hfit i hi) (va_uu _ _ _ _) (Nat.le_of_ble_eq_true rfl) (Nat.le_of_ble_eq_true rfl) dJ10_copyOf_3_28 ?_
  refine g_aload_n C dJ10_copyOf_3_31 rfl 0 rfl ?_
  exact g_aret C hr hlk dJ10_copyOf_3_32 (Or.inr ⟨_, rfl⟩) (Or.inr ⟨_, rfl⟩) (by omega) (by omega) ⟨_, rfl, ⟨rfl, rfl, rfl⟩⟩
theorem ok_J4_ensureCapacityInternal : yJ4_ensureCapacityInternal.cls = "java/lang/AbstractStringBuilder" ∧ yJ4_ensureCapacityInternal.cls ≠ "java/lang/invoke/MethodHandle" ∧ yJ4_ensureCapacityInternal.cls ≠ "java/lang/invoke/VarHandle" ∧ (parseMethodDescriptor yJ4_ensureCapacityInternal.desc).map (fun d => d.parameters.length) = some 1 := by decide +kernel
set_option maxHeartbeats 4000000 in
set_option maxRecDepth 100000 in
theorem met_J4_ensureCapacityInternal {l : Launch} {D : va_G} {b0 n : Nat} {h : GH} {a va cap m : Nat} {ml : Int32} {f : Nat → Int32} {k : Nat} (L : SbAt D b0 h a va cap m ml f) (hk : k ≤ cap + 1) (hc : cap ≤ 200) (hk2 : k ≤ 100) : gMet l yJ4_ensureCapacityInternal cJ4_ensureCapacityInternal 3 (none) 3 82 1 210 D b0 h n [.ref a, .int (nI k)] (pV (fun h' n' => SbP D b0 h n a va m m f (fun c' f' => k ≤ c' ∧ ∀ i, i < m → f' i = f i) h' n')) := by
  refine gMet.of (lv := [(0, _), (1, _)]) (by decide) (Nat.le_of_ble_eq_true rfl) rfl ?_
  intro p_ e_ U0 m_ args_ below_ meth_ co_ C hr hlk hnm
  have hne := L.ne
  obtain ⟨hA, hB, hm, hcap, hga, hgb, hfit⟩ := id L
  have hne2 := Ne.symm hne
  refine g_lt hA (fun hla => ?_)
  refine g_lt hB (fun hlb => ?_)
  refine g_size C (fun hb0 => ?_)
  refine g_aload_n C dJ4_ensureCapacityInternal_0 rfl 0 rfl ?_
  refine g_get C in_J5 hA rfl 0 (by decide) q197 (fun _ hx => hx) rfl dJ4_ensureCapacityInternal_1 ?_
  refine g_alen (t0 := 1) (v := nI cap) C hB rfl rfl dJ4_ensureCapacityInternal_4 ?_
  refine g_aload_n C dJ4_ensureCapacityInternal_5 rfl 0 rfl ?_
  refine g_get C in_J5 hA rfl 1 (by decide) q198 (fun _ hx => hx) rfl dJ4_ensureCapacityInternal_6 ?_
  refine g_ishr C dJ4_ensureCapacityInternal_9 ?_
  refine g_topi (y := nI (cap)) (sb_shr0 _) ?_
  refine g_istore_n (lv' := [(2, _), (0, _), (1, _)]) C dJ4_ensureCapacityInternal_10 rfl (by decide) rfl ?_
  refine g_iload_n C dJ4_ensureCapacityInternal_11 rfl 2 rfl ?_
  refine g_iload_n C dJ4_ensureCapacityInternal_12 rfl 0 rfl ?_
  refine g_isub C dJ4_ensureCapacityInternal_13 ?_
  refine g_if_le (tgt := 38) C dJ4_ensureCapacityInternal_14 (by decide) (fun c_14 => ?_) (fun c_14 => ?_)
  · have hq := (sub_le0 (by omega) (by omega)).mp c_14
    exact g_vret C hr hlk dJ4_ensureCapacityInternal_38 (by omega) (by omega) ⟨rfl, ⟨va, cap, ml, f, L, ⟨hq, fun _ _ => rfl⟩, Or.inl ⟨rfl, rfl⟩, fun _ _ _ => rfl⟩⟩
  · have hq : ¬ k ≤ cap := fun e => c_14 ((sub_le0 (by omega) (by omega)).mpr e)
    refine g_aload_n C dJ4_ensureCapacityInternal_17 rfl 1 rfl ?_
    refine g_aload_n C dJ4_ensureCapacityInternal_18 rfl 1 rfl ?_
    refine g_get C in_J5 hA rfl 0 (by decide) q197 (fun _ hx => hx) rfl dJ4_ensureCapacityInternal_19 ?_
    refine g_aload_n C dJ4_ensureCapacityInternal_22 rfl 1 rfl ?_
    refine g_iload_n C dJ4_ensureCapacityInternal_23 rfl 2 rfl ?_
    refine g_U1I C (met_J4_newCapacity L (by omega)) (cwPU 1 C.2.2.2.2.1 q817 q1464 (C.2.2.2.2.2.1.2.2.2.2.2.2.2.2.2.2.2.2 _ (List.mem_cons_of_mem _ List.mem_cons_self)) q819 q69 q820 rfl rfl ok_J4_newCapacity.2 ⟨(Nat.le_of_ble_eq_true rfl), (Nat.le_of_ble_eq_true rfl)⟩) hA rfl (Nat.le_of_ble_eq_true rfl) dJ4_ensureCapacityInternal_24 ⟨(by show _ ≤ 1; omega), (by show _ ≤ 210; omega)⟩ (fun r_24 h_24 n_24 hp_24 hn_24 => ?_)
    obtain ⟨rfl, rfl, rfl⟩ := hp_24
    refine g_aload_n C dJ4_ensureCapacityInternal_27 rfl 1 rfl ?_
    refine g_get C in_J5 hA rfl 1 (by decide) q198 (fun _ hx => hx) rfl dJ4_ensureCapacityInternal_28 ?_
    refine g_ishl C dJ4_ensureCapacityInternal_31 ?_
    refine g_topi (y := nI (2 * cap + 2)) (sb_shl0 _) ?_
    refine g_S2R C (met_J10_copyOf_3 hB hfit (by omega) (by omega)) (va_cwS 2 C.2.2.2.2.1 (lw_S q823 q824 q76 q825) rfl rfl rfl ok_J10_copyOf_3 ⟨(Nat.le_of_ble_eq_true rfl), (Nat.le_of_ble_eq_true rfl)⟩) (Nat.le_of_ble_eq_true rfl) dJ4_ensureCapacityInternal_32 ⟨(by show _ ≤ 1; omega), (by show _ ≤ 210; omega)⟩ (fun r_32 h_32 n_32 hp_32 hn_32 => ?_)
    obtain ⟨rfl, rfl, rfl⟩ := hp_32
    refine g_put C in_J5 tyJ5 tyJ5_ok nmJ5 ((va_up_ne _ _ (by omega)).trans hA) hga rfl 0 (by decide) q197 (fun _ hx => hx) rfl rfl rfl rfl (Nat.le_of_ble_eq_true rfl) rfl dJ4_ensureCapacityInternal_35 ?_
    refine g_opq (fun h35 e35 o35 => ?_)
    exact g_vret C hr hlk dJ4_ensureCapacityInternal_38 (by omega) (by omega) ⟨rfl, ⟨n, _, ml, _, ⟨e35, (o35 _ (by omega)).trans (va_up_self _ _ _), by omega, by omega, hga, hb0, sb_fit hfit⟩, ⟨by omega, fun i hi => by simp [va_cpy, show i < cap by omega]⟩, Or.inr ⟨rfl, rfl⟩, fun q q1 q2 => (o35 _ q1).trans (va_up_ne _ _ q2)⟩⟩
theorem ok_J4_append : yJ4_append.cls = "java/lang/AbstractStringBuilder" ∧ yJ4_append.cls ≠ "java/lang/invoke/MethodHandle" ∧ yJ4_append.cls ≠ "java/lang/invoke/VarHandle" ∧ (parseMethodDescriptor yJ4_append.desc).map (fun d => d.parameters.length) = some 1 := by decide +kernel
set_option maxHeartbeats 4000000 in
set_option maxRecDepth 100000 in
theorem met_J4_append {l : Launch} {D : va_G} {b0 n : Nat} {h : GH} {a va cap m : Nat} {ml : Int32} {f : Nat → Int32} {c : Nat} (L : SbAt D b0 h a va cap m ml f) (hm2 : m ≤ 99) (hc : c < 128) : gMet l yJ4_append cJ4_append 2 ((some (.object "java/lang/AbstractStringBuilder"))) 4 104 1 210 D b0 h n [.ref a, .int (nI c)] (pR (fun r' h' n' => a = r' ∧ SbP D b0 h n a va m (m + 1) f (fun c' f' => f' m = nI c ∧ ∀ i, i < m → f' i = f i) h' n')) := by
  refine gMet.of (lv := [(0, _), (1, _)]) (by decide) (Nat.le_of_ble_eq_true rfl) rfl ?_
  intro p_ e_ U0 m_ args_ below_ meth_ co_ C hr hlk hnm
  have hm9 := L.2.2.1
  have hm8 := L.2.2.2.1
  refine g_aload_n C dJ4_append_0 rfl 0 rfl ?_
  refine g_aload_n C dJ4_append_1 rfl 0 rfl ?_
  refine g_get C in_J5 L.1 rfl 3 (by decide) q200 (fun _ hx => hx) rfl dJ4_append_2 ?_
  refine g_iconst C dJ4_append_5 kc_1 ?_
  refine g_iaddN C dJ4_append_6 ?_
  refine g_U1V C (met_J4_ensureCapacityInternal L (by omega) (by omega) (by omega)) (cwPU 1 C.2.2.2.2.1 q813 q1463 (C.2.2.2.2.2.1.2.2.2.2.2.2.2.2.2.2.2.2 _ List.mem_cons_self) q815 q69 q816 rfl rfl ok_J4_ensureCapacityInternal.2 ⟨(Nat.le_of_ble_eq_true rfl), (Nat.le_of_ble_eq_true rfl)⟩) L.1 rfl (Nat.le_of_ble_eq_true rfl) dJ4_append_7 ⟨(Nat.le_of_ble_eq_true rfl), (Nat.le_of_ble_eq_true rfl)⟩ (fun h_7 n_7 hp_7 hn_7 => ?_)
  obtain ⟨va1, cap1, ml1, f1, L1, ⟨k1, k2⟩, k3, k4⟩ := hp_7
  have hne := L1.ne
  have hne2 := Ne.symm hne
  obtain ⟨hA, hB, hm, hcap, hga, hgb, hfit⟩ := id L1
  refine g_aload_n C dJ4_append_10 rfl 0 rfl ?_
  refine g_U0I C (met_J4_isLatin1 L1) (va_cwU 0 C.2.2.2.2.1 (lw_app (lw_l5 q831 q833 q834 q832 q69) (lw_meth q835)) rfl rfl rfl rfl ok_J4_isLatin1.2 ⟨(Nat.le_of_ble_eq_true rfl), (Nat.le_of_ble_eq_true rfl)⟩) hA rfl (Nat.le_of_ble_eq_true rfl) dJ4_append_11 ⟨(Nat.le_of_ble_eq_true rfl), (Nat.le_of_ble_eq_true rfl)⟩ (fun r_11 h_11 n_11 hp_11 hn_11 => ?_)
  obtain ⟨rfl, rfl, rfl⟩ := hp_11
  refine g_if_eqB (tgt := 45) C dJ4_append_14 (by decide) (fun c_14 => absurd c_14 (by decide)) (fun c_14 => ?_)
  refine g_iload_n C dJ4_append_17 rfl 1 rfl ?_
  refine g_S1I C (met_J14_canEncode (by omega)) (va_cwS 1 C.2.2.2.2.1 (lw_S q836 q837 q84 q838) rfl rfl rfl ok_J14_canEncode ⟨(Nat.le_of_ble_eq_true rfl), (Nat.le_of_ble_eq_true rfl)⟩) (Nat.le_of_ble_eq_true rfl) dJ4_append_18 ⟨(Nat.le_of_ble_eq_true rfl), (Nat.le_of_ble_eq_true rfl)⟩ (fun r_18 h_18 n_18 hp_18 hn_18 => ?_)
  obtain ⟨rfl, rfl, rfl⟩ := hp_18
  refine g_if_eqB (tgt := 45) C dJ4_append_21 (by decide) (fun c_21 => absurd c_21 (by decide)) (fun c_21 => ?_)
  refine g_aload_n C dJ4_append_24 rfl 0 rfl ?_
  refine g_get C in_J5 hA rfl 0 (by decide) q197 (fun _ hx => hx) rfl dJ4_append_25 ?_
  refine g_aload_n C dJ4_append_28 rfl 0 rfl ?_
  refine g_dup C dJ4_append_29 rfl ?_
  refine g_get C in_J5 hA rfl 3 (by decide) q200 (fun _ hx => hx) rfl dJ4_append_30 ?_
  refine g_dup_x1 C dJ4_append_33 rfl rfl ?_
  refine g_iconst C dJ4_append_34 kc_1 ?_
  refine g_iaddN C dJ4_append_35 ?_
  refine g_put C in_J5 tyJ5 tyJ5_ok nmJ5 hA hga rfl 3 (by decide) q200 (fun _ hx => hx) rfl rfl rfl rfl (Nat.le_of_ble_eq_true rfl) rfl dJ4_append_36 ?_
  refine g_opq (fun h36 e36 o36 => ?_)
  refine g_iload_n C dJ4_append_39 rfl 1 rfl ?_
  refine g_i2b C dJ4_append_40 (ch_b hc) ?_
  refine g_bastN C ((o36 _ (by first | assumption | omega)).trans hB) hgb (by omega) (by omega) (ch_n hc) rfl dJ4_append_41 ?_
  refine g_opq (fun h41 e41 o41 => ?_)
  refine g_goto (tgt := 75) C dJ4_append_42 (by decide) ?_
  refine g_aload_n C dJ4_append_75 rfl 0 rfl ?_
  exact g_aret C hr hlk dJ4_append_76 (Or.inl ⟨_, rfl⟩) (Or.inr ⟨_, rfl⟩) (Nat.le_of_ble_eq_true rfl) (Nat.le_of_ble_eq_true rfl) ⟨_, rfl, ⟨rfl, va1, cap1, ml1, _, ⟨(o41 _ hne2).trans e36, e41, by omega, hcap, hga, hgb, sb_upd hfit (ch_f hc)⟩, ⟨by simp [upd], fun i hi => by rw [← k2 i hi]; simp [upd, Nat.ne_of_lt hi]⟩, k3, fun q q1 q2 => ((o41 _ q2).trans (o36 _ q1)).trans (k4 q q1 q2)⟩⟩
theorem ok_J5_append : yJ5_append.cls = "java/lang/StringBuilder" ∧ yJ5_append.cls ≠ "java/lang/invoke/MethodHandle" ∧ yJ5_append.cls ≠ "java/lang/invoke/VarHandle" ∧ (parseMethodDescriptor yJ5_append.desc).map (fun d => d.parameters.length) = some 1 := by decide +kernel
set_option maxHeartbeats 4000000 in
set_option maxRecDepth 100000 in
theorem met_J5_append {l : Launch} {D : va_G} {b0 n : Nat} {h : GH} {a va cap m : Nat} {ml : Int32} {f : Nat → Int32} {c : Nat} (L : SbAt D b0 h a va cap m ml f) (hm2 : m ≤ 99) (hc : c < 128) : gMet l yJ5_append cJ5_append 2 ((some (.object "java/lang/StringBuilder"))) 5 125 1 210 D b0 h n [.ref a, .int (nI c)] (pR (fun r' h' n' => a = r' ∧ SbP D b0 h n a va m (m + 1) f (fun c' f' => f' m = nI c ∧ ∀ i, i < m → f' i = f i) h' n')) := by
  refine gMet.of (lv := [(0, _), (1, _)]) (by decide) (Nat.le_of_ble_eq_true rfl) rfl ?_
  intro p_ e_ U0 m_ args_ below_ meth_ co_ C hr hlk hnm
  refine g_aload_n C dJ5_append_0 rfl 0 rfl ?_
  refine g_iload_n C dJ5_append_1 rfl 1 rfl ?_
  refine g_P1R C (met_J4_append L (by omega) (by omega)) (va_cwSU 1 C.2.2.2.2.1 (lw_app (lw_l5 q810 q1462 q209 q811 q69) (lw_meth q812)) rfl rfl rfl ⟨by decide, ok_J4_append.2.2.2⟩ ⟨(Nat.le_of_ble_eq_true rfl), (Nat.le_of_ble_eq_true rfl)⟩) L.1 rfl (Nat.le_of_ble_eq_true rfl) dJ5_append_2 ⟨(Nat.le_of_ble_eq_true rfl), (Nat.le_of_ble_eq_true rfl)⟩ (fun r_2 h_2 n_2 hp_2 hn_2 => ?_)
  obtain ⟨rfl, hp_2⟩ := hp_2
  refine g_pop C dJ5_append_5 rfl ?_
  refine g_aload_n C dJ5_append_6 rfl 0 rfl ?_
  exact g_aret C hr hlk dJ5_append_7 (Or.inl ⟨_, rfl⟩) (Or.inr ⟨_, rfl⟩) (Nat.le_of_ble_eq_true rfl) (Nat.le_of_ble_eq_true rfl) ⟨_, rfl, ⟨rfl, hp_2⟩⟩
theorem ok_J4_setLength : yJ4_setLength.cls = "java/lang/AbstractStringBuilder" ∧ yJ4_setLength.cls ≠ "java/lang/invoke/MethodHandle" ∧ yJ4_setLength.cls ≠ "java/lang/invoke/VarHandle" ∧ (parseMethodDescriptor yJ4_setLength.desc).map (fun d => d.parameters.length) = some 1 := by decide +kernel
set_option maxHeartbeats 4000000 in
set_option maxRecDepth 100000 in
theorem met_J4_setLength {l : Launch} {D : va_G} {b0 n : Nat} {h : GH} {a va cap m : Nat} {ml : Int32} {f : Nat → Int32} (L : SbAt D b0 h a va cap m ml f) : gMet l yJ4_setLength cJ4_setLength 2 (none) 4 104 1 210 D b0 h n [.ref a, .int (nI 0)] (pV (fun h' n' => SbP D b0 h n a va m 0 f (fun _ _ => True) h' n')) := by
  refine gMet.of (lv := [(0, _), (1, _)]) (by decide) (Nat.le_of_ble_eq_true rfl) rfl ?_
  intro p_ e_ U0 m_ args_ below_ meth_ co_ C hr hlk hnm
  have hm9 := L.2.2.1
  have hm8 := L.2.2.2.1
  refine g_iload_n C dJ4_setLength_0 rfl 1 rfl ?_
  refine g_if_geN (tgt := 13) C dJ4_setLength_1 (by decide) (by omega) ?_
  refine g_aload_n C dJ4_setLength_13 rfl 0 rfl ?_
  refine g_iload_n C dJ4_setLength_14 rfl 1 rfl ?_
  refine g_U1V C (met_J4_ensureCapacityInternal L (by omega) (by omega) (by omega)) (cwPU 1 C.2.2.2.2.1 q813 q1463 (C.2.2.2.2.2.1.2.2.2.2.2.2.2.2.2.2.2.2 _ List.mem_cons_self) q815 q69 q816 rfl rfl ok_J4_ensureCapacityInternal.2 ⟨(Nat.le_of_ble_eq_true rfl), (Nat.le_of_ble_eq_true rfl)⟩) L.1 rfl (Nat.le_of_ble_eq_true rfl) dJ4_setLength_15 ⟨(Nat.le_of_ble_eq_true rfl), (Nat.le_of_ble_eq_true rfl)⟩ (fun h_15 n_15 hp_15 hn_15 => ?_)
  obtain ⟨va1, cap1, ml1, f1, L1, ⟨k1, k2⟩, k3, k4⟩ := hp_15
  have hne := L1.ne
  have hne2 := Ne.symm hne
  obtain ⟨hA, hB, hm, hcap, hga, hgb, hfit⟩ := id L1
  refine g_aload_n C dJ4_setLength_18 rfl 0 rfl ?_
  refine g_get C in_J5 hA rfl 3 (by decide) q200 (fun _ hx => hx) rfl dJ4_setLength_19 ?_
  refine g_iload_n C dJ4_setLength_22 rfl 1 rfl ?_
  refine g_icmp_geN (tgt := 63) C dJ4_setLength_23 (by decide) (by omega) (by omega) (fun c_23 => ?_) (fun c_23 => absurd c_23 (by omega))
  refine g_aload_n C dJ4_setLength_63 rfl 0 rfl ?_
  refine g_get C in_J5 hA rfl 3 (by decide) q200 (fun _ hx => hx) rfl dJ4_setLength_64 ?_
  refine g_iload_n C dJ4_setLength_67 rfl 1 rfl ?_
  refine g_icmp_leN (tgt := 76) C dJ4_setLength_68 (by decide) (by omega) (by omega) (fun c_68 => ?_) (fun c_68 => ?_)
  · refine g_aload_n C dJ4_setLength_76 rfl 0 rfl ?_
    refine g_iload_n C dJ4_setLength_77 rfl 1 rfl ?_
    refine g_put C in_J5 tyJ5 tyJ5_ok nmJ5 hA hga rfl 3 (by decide) q200 (fun _ hx => hx) rfl rfl rfl rfl (Nat.le_of_ble_eq_true rfl) rfl dJ4_setLength_78 ?_
    refine g_opq (fun h78 e78 o78 => ?_)
    exact g_vret C hr hlk dJ4_setLength_81 (Nat.le_of_ble_eq_true rfl) (Nat.le_of_ble_eq_true rfl) ⟨rfl, ⟨va1, cap1, _, f1, ⟨e78, (o78 _ hne).trans hB, by omega, hcap, hga, hgb, hfit⟩, trivial, k3, fun q q1 q2 => (o78 _ q1).trans (k4 q q1 q2)⟩⟩
  · refine g_aload_n C dJ4_setLength_71 rfl 0 rfl ?_
    refine g_iconst C dJ4_setLength_72 kc_1 ?_
    refine g_put C in_J5 tyJ5 tyJ5_ok nmJ5 hA hga rfl 2 (by decide) q199 (fun _ hx => hx) rfl rfl rfl rfl (Nat.le_of_ble_eq_true rfl) rfl dJ4_setLength_73 ?_
    refine g_opq (fun h73 e73 o73 => ?_)
    refine g_aload_n C dJ4_setLength_76 rfl 0 rfl ?_
    refine g_iload_n C dJ4_setLength_77 rfl 1 rfl ?_
    refine g_put C in_J5 tyJ5 tyJ5_ok nmJ5 e73 hga rfl 3 (by decide) q200 (fun _ hx => hx) rfl rfl rfl rfl (Nat.le_of_ble_eq_true rfl) rfl dJ4_setLength_78 ?_
    refine g_opq (fun h78 e78 o78 => ?_)
    exact g_vret C hr hlk dJ4_setLength_81 (Nat.le_of_ble_eq_true rfl) (Nat.le_of_ble_eq_true rfl) ⟨rfl, ⟨va1, cap1, _, f1, ⟨e78, (o78 _ hne).trans ((o73 _ hne).trans hB), by omega, hcap, hga, hgb, hfit⟩, trivial, k3, fun q q1 q2 => ((o78 _ q1).trans (o73 _ q1)).trans (k4 q q1 q2)⟩⟩
theorem ok_J5_setLength : yJ5_setLength.cls = "java/lang/StringBuilder" ∧ yJ5_setLength.cls ≠ "java/lang/invoke/MethodHandle" ∧ yJ5_setLength.cls ≠ "java/lang/invoke/VarHandle" ∧ (parseMethodDescriptor yJ5_setLength.desc).map (fun d => d.parameters.length) = some 1 := by decide +kernel
set_option maxHeartbeats 4000000 in
set_option maxRecDepth 100000 in
theorem met_J5_setLength {l : Launch} {D : va_G} {b0 n : Nat} {h : GH} {a va cap m : Nat} {ml : Int32} {f : Nat → Int32} (L : SbAt D b0 h a va cap m ml f) : gMet l yJ5_setLength cJ5_setLength 2 (none) 5 125 1 210 D b0 h n [.ref a, .int (nI 0)] (pV (fun h' n' => SbP D b0 h n a va m 0 f (fun _ _ => True) h' n')) := by
  refine gMet.of (lv := [(0, _), (1, _)]) (by decide) (Nat.le_of_ble_eq_true rfl) rfl ?_
  intro p_ e_ U0 m_ args_ below_ meth_ co_ C hr hlk hnm
  refine g_aload_n C dJ5_setLength_0 rfl 0 rfl ?_
  refine g_iload_n C dJ5_setLength_1 rfl 1 rfl ?_
  refine g_P1V C (met_J4_setLength L) (va_cwSU 1 C.2.2.2.2.1 (lw_app (lw_l5 q890 q1466 q209 q891 q69) (lw_meth q892)) rfl rfl rfl ⟨by decide, ok_J4_setLength.2.2.2⟩ ⟨(Nat.le_of_ble_eq_true rfl), (Nat.le_of_ble_eq_true rfl)⟩) L.1 rfl (Nat.le_of_ble_eq_true rfl) dJ5_setLength_2 ⟨(Nat.le_of_ble_eq_true rfl), (Nat.le_of_ble_eq_true rfl)⟩ (fun h_2 n_2 hp_2 hn_2 => ?_)
  exact g_vret C hr hlk dJ5_setLength_5 (Nat.le_of_ble_eq_true rfl) (Nat.le_of_ble_eq_true rfl) ⟨rfl, hp_2⟩
theorem ok_J6_checkIndex : yJ6_checkIndex.cls ≠ "java/lang/invoke/MethodHandle" ∧ yJ6_checkIndex.cls ≠ "java/lang/invoke/VarHandle" ∧ (parseMethodDescriptor yJ6_checkIndex.desc).map (fun d => d.parameters.length) = some 2 := by decide +kernel
set_option maxHeartbeats 4000000 in
set_option maxRecDepth 100000 in
theorem met_J6_checkIndex {l : Launch} {D : va_G} {b0 n : Nat} {h : GH} {i k : Nat} (hi : i < k) (hk : k < 2 ^ 31) : gMet l yJ6_checkIndex cJ6_checkIndex 2 (none) 1 22 0 0 D b0 h n [.int (nI i), .int (nI k)] (pV (fun h' n' => h = h' ∧ n = n')) := by
  refine gMet.of (lv := [(0, _), (1, _)]) (by decide) (Nat.le_of_ble_eq_true rfl) rfl ?_
  intro p_ e_ U0 m_ args_ below_ meth_ co_ C hr hlk hnm
  refine g_iload_n C dJ6_checkIndex_0 rfl 0 rfl ?_
  refine g_iload_n C dJ6_checkIndex_1 rfl 1 rfl ?_
  refine g_getsq (ref := "") C q858 dJ6_checkIndex_2 (fun v_2 => ?_)
  rcases v_2 with _ | t_2
  · refine g_S3I C (met_J13_checkIndex_0 hi hk) (va_cwS 3 C.2.2.2.2.1 (lw_S q881 q494 q82 q495) rfl rfl rfl ok_J13_checkIndex ⟨(Nat.le_of_ble_eq_true rfl), (Nat.le_of_ble_eq_true rfl)⟩) (Nat.le_of_ble_eq_true rfl) dJ6_checkIndex_5 ⟨(Nat.le_of_ble_eq_true rfl), (Nat.le_of_ble_eq_true rfl)⟩ (fun r_5 h_5 n_5 hp_5 hn_5 => ?_)
    obtain ⟨rfl, rfl, rfl⟩ := hp_5
    refine g_pop C dJ6_checkIndex_8 rfl ?_
    exact g_vret C hr hlk dJ6_checkIndex_9 (Nat.le_of_ble_eq_true rfl) (Nat.le_of_ble_eq_true rfl) ⟨rfl, rfl, rfl⟩
  · refine g_S3I C (met_J13_checkIndex_R hi hk) (va_cwS 3 C.2.2.2.2.1 (lw_S q881 q494 q82 q495) rfl rfl rfl ok_J13_checkIndex ⟨(Nat.le_of_ble_eq_true rfl), (Nat.le_of_ble_eq_true rfl)⟩) (Nat.le_of_ble_eq_true rfl) dJ6_checkIndex_5 ⟨(Nat.le_of_ble_eq_true rfl), (Nat.le_of_ble_eq_true rfl)⟩ (fun r_5 h_5 n_5 hp_5 hn_5 => ?_)
    obtain ⟨rfl, rfl, rfl⟩ := hp_5
    refine g_pop C dJ6_checkIndex_8 rfl ?_
    exact g_vret C hr hlk dJ6_checkIndex_9 (Nat.le_of_ble_eq_true rfl) (Nat.le_of_ble_eq_true rfl) ⟨rfl, rfl, rfl⟩
theorem ok_J4_charAt : yJ4_charAt.cls = "java/lang/AbstractStringBuilder" ∧ yJ4_charAt.cls ≠ "java/lang/invoke/MethodHandle" ∧ yJ4_charAt.cls ≠ "java/lang/invoke/VarHandle" ∧ (parseMethodDescriptor yJ4_charAt.desc).map (fun d => d.parameters.length) = some 1 := by decide +kernel
set_option maxHeartbeats 4000000 in
set_option maxRecDepth 100000 in
theorem met_J4_charAt {l : Launch} {D : va_G} {b0 n : Nat} {h : GH} {a va cap m : Nat} {ml : Int32} {f : Nat → Int32} {i c : Nat} (L : SbAt D b0 h a va cap m ml f) (hi : i < m) (hf : f i = nI c) (hc : c < 128) : gMet l yJ4_charAt cJ4_charAt 5 ((some .char)) 2 43 0 0 D b0 h n [.ref a, .int (nI i)] (pI (fun r' h' n' => nI c = r' ∧ h = h' ∧ n = n')) := by
  refine gMet.of (lv := [(0, _), (1, _)]) (by decide) (Nat.le_of_ble_eq_true rfl) rfl ?_
  intro p_ e_ U0 m_ args_ below_ meth_ co_ C hr hlk hnm
  have hne := L.ne
  obtain ⟨hA, hB, hm, hcap, hga, hgb, hfit⟩ := id L
  have hne2 := Ne.symm hne
  refine g_aload_n C dJ4_charAt_0 rfl 0 rfl ?_
  refine g_get C in_J5 hA rfl 1 (by decide) q198 (fun _ hx => hx) rfl dJ4_charAt_1 ?_
  refine g_istore_n (lv' := [(2, _), (0, _), (1, _)]) C dJ4_charAt_4 rfl (by decide) rfl ?_
  refine g_aload_n C dJ4_charAt_5 rfl 1 rfl ?_
  refine g_get C in_J5 hA rfl 0 (by decide) q197 (fun _ hx => hx) rfl dJ4_charAt_6 ?_
  refine g_astore_n (lv' := [(3, _), (2, _), (0, _), (1, _)]) C dJ4_charAt_9 rfl (by decide) rfl ?_
  refine g_aload_n C dJ4_charAt_10 rfl 2 rfl ?_
  refine g_get C in_J5 hA rfl 3 (by decide) q200 (fun _ hx => hx) rfl dJ4_charAt_11 ?_
  refine g_aload_n C dJ4_charAt_14 rfl 0 rfl ?_
  refine g_alen (t0 := 1) (v := nI cap) C hB rfl rfl dJ4_charAt_15 ?_
  refine g_iload_n C dJ4_charAt_16 rfl 1 rfl ?_
  refine g_ishr C dJ4_charAt_17 ?_
  refine g_topi (y := nI (cap)) (sb_shr0 _) ?_
  refine g_S2I C (met_J9_min (by omega) (by omega)) (va_cwS 2 C.2.2.2.2.1 (lw_S q955 q309 q75 q310) rfl rfl rfl ok_J9_min ⟨(Nat.le_of_ble_eq_true rfl), (Nat.le_of_ble_eq_true rfl)⟩) (Nat.le_of_ble_eq_true rfl) dJ4_charAt_18 ⟨(Nat.le_of_ble_eq_true rfl), (Nat.le_of_ble_eq_true rfl)⟩ (fun r_18 h_18 n_18 hp_18 hn_18 => ?_)
  obtain ⟨rfl, rfl, rfl⟩ := hp_18
  refine g_topi (y := nI m) (by rw [Nat.min_eq_left (by omega)]) ?_
  refine g_istore (lv' := [(4, _), (3, _), (2, _), (0, _), (1, _)]) C dJ4_charAt_21 (by decide) rfl ?_
  refine g_iload_n C dJ4_charAt_23 rfl 4 rfl ?_
  refine g_iload C dJ4_charAt_24 0 rfl ?_
  refine g_S2V C (met_J6_checkIndex (by omega) (by omega)) (va_cwS 2 C.2.2.2.2.1 (lw_S q956 q879 q71 q880) rfl rfl rfl ok_J6_checkIndex ⟨(Nat.le_of_ble_eq_true rfl), (Nat.le_of_ble_eq_true rfl)⟩) (Nat.le_of_ble_eq_true rfl) dJ4_charAt_26 ⟨(Nat.le_of_ble_eq_true rfl), (Nat.le_of_ble_eq_true rfl)⟩ (fun h_26 n_26 hp_26 hn_26 => ?_)
  obtain ⟨rfl, rfl⟩ := hp_26
  refine g_iload_n C dJ4_charAt_29 rfl 2 rfl ?_
  refine g_if_neN (tgt := 42) C dJ4_charAt_30 (by decide) (by omega) (fun c_30 => absurd rfl c_30) (fun c_30 => ?_)
  refine g_aload_n C dJ4_charAt_33 rfl 1 rfl ?_
  refine g_iload_n C dJ4_charAt_34 rfl 4 rfl ?_
  refine g_baldN C hB (by omega) (by omega) dJ4_charAt_35 ?_
  refine g_topi (y := nI (c)) hf ?_
  refine g_sipush C dJ4_charAt_36 ks_255 ?_
  refine g_iand C dJ4_charAt_39 ?_
  refine g_topi (y := nI (c)) (ch_a hc) ?_
  refine g_i2c C dJ4_charAt_40 (ch_c hc) ?_
  exact g_iret C hr hlk dJ4_charAt_41 (Nat.le_of_ble_eq_true rfl) (Nat.le_of_ble_eq_true rfl) (ch_r hc) ⟨_, rfl, ⟨rfl, rfl, rfl⟩⟩
theorem ok_J5_charAt : yJ5_charAt.cls = "java/lang/StringBuilder" ∧ yJ5_charAt.cls ≠ "java/lang/invoke/MethodHandle" ∧ yJ5_charAt.cls ≠ "java/lang/invoke/VarHandle" ∧ (parseMethodDescriptor yJ5_charAt.desc).map (fun d => d.parameters.length) = some 1 := by decide +kernel
set_option maxHeartbeats 4000000 in
set_option maxRecDepth 100000 in
theorem met_J5_charAt {l : Launch} {D : va_G} {b0 n : Nat} {h : GH} {a va cap m : Nat} {ml : Int32} {f : Nat → Int32} {i c : Nat} (L : SbAt D b0 h a va cap m ml f) (hi : i < m) (hf : f i = nI c) (hc : c < 128) : gMet l yJ5_charAt cJ5_charAt 2 ((some .char)) 3 67 0 0 D b0 h n [.ref a, .int (nI i)] (pI (fun r' h' n' => nI c = r' ∧ h = h' ∧ n = n')) := by
  refine gMet.of (lv := [(0, _), (1, _)]) (by decide) (Nat.le_of_ble_eq_true rfl) rfl ?_
  intro p_ e_ U0 m_ args_ below_ meth_ co_ C hr hlk hnm
  have hne := L.ne
  obtain ⟨hA, hB, hm, hcap, hga, hgb, hfit⟩ := id L
  have hne2 := Ne.symm hne
  refine g_aload_n C dJ5_charAt_0 rfl 0 rfl ?_
  refine g_iload_n C dJ5_charAt_1 rfl 1 rfl ?_
  refine g_P1I C (met_J4_charAt L hi hf hc) (va_cwSU 1 C.2.2.2.2.1 (lw_app (lw_l5 q952 q1467 q209 q953 q69) (lw_meth q954)) rfl rfl rfl ⟨by decide, ok_J4_charAt.2.2.2⟩ ⟨(Nat.le_of_ble_eq_true rfl), (Nat.le_of_ble_eq_true rfl)⟩) hA rfl (Nat.le_of_ble_eq_true rfl) dJ5_charAt_2 ⟨(Nat.le_of_ble_eq_true rfl), (Nat.le_of_ble_eq_true rfl)⟩ (fun r_2 h_2 n_2 hp_2 hn_2 => ?_)
  obtain ⟨rfl, rfl, rfl⟩ := hp_2
  exact g_iret C hr hlk dJ5_charAt_5 (Nat.le_of_ble_eq_true rfl) (Nat.le_of_ble_eq_true rfl) (ch_r hc) ⟨_, rfl, ⟨rfl, rfl, rfl⟩⟩
theorem ok_J4_init : yJ4_init.cls ≠ "java/lang/invoke/MethodHandle" ∧ yJ4_init.cls ≠ "java/lang/invoke/VarHandle" ∧ (parseMethodDescriptor yJ4_init.desc).map (fun d => d.parameters.length) = some 1 := by decide +kernel
set_option maxHeartbeats 4000000 in
set_option maxRecDepth 100000 in
theorem met_J4_init {l : Launch} {D : va_G} {b0 n : Nat} {h : GH} {a : Nat} {v0 v1 v2 v3 : Value} (hA : h a = gO 12 [v0, v1, v2, v3]) (ha : b0 ≤ a) : gMet l yJ4_init cJ4_init 2 (none) 1 20 1 16 D b0 h n [.ref a, .int (nI 16)] (pV (fun h' n' => (va_up (va_up h n (gB D 16 (fun _ => 0))) a (gO 12 [.ref n, .int (nI 0), v2, v3])) = h' ∧ (n + 1) = n')) := by
  refine gMet.of (lv := [(0, _), (1, _)]) (by decide) (Nat.le_of_ble_eq_true rfl) rfl ?_
  intro p_ e_ U0 m_ args_ below_ meth_ co_ C hr hlk hnm
  refine g_lt hA (fun hla => ?_)
  refine g_aload_n C dJ4_init_0 rfl 0 rfl ?_
  refine g_objInit C q187 dJ4_init_1 (Nat.le_of_ble_eq_true rfl) (Nat.le_of_ble_eq_true rfl) ?_
  refine g_gets C C.2.2.2.2.2.2.2.2.1 q188 (fun _ hx => hx) dJ4_init_4 ?_
  refine g_if_eq (tgt := 25) C dJ4_init_7 (by decide) (fun c_7 => absurd c_7 (by decide)) (fun c_7 => ?_)
  refine g_aload_n C dJ4_init_10 rfl 0 rfl ?_
  refine g_iload_n C dJ4_init_11 rfl 1 rfl ?_
  refine g_newb C (by omega) (Nat.le_of_ble_eq_true rfl) (Nat.le_of_ble_eq_true rfl) dJ4_init_12 ?_
  refine g_put C in_J5 tyJ5 tyJ5_ok nmJ5 ((va_up_ne _ _ (by omega)).trans hA) ha rfl 0 (by decide) q197 (fun _ hx => hx) rfl rfl rfl rfl (Nat.le_of_ble_eq_true rfl) rfl dJ4_init_14 ?_
  refine g_aload_n C dJ4_init_17 rfl 0 rfl ?_
  refine g_iconst C dJ4_init_18 kc_0 ?_
  refine g_put C in_J5 tyJ5 tyJ5_ok nmJ5 (va_up_self _ _ _) ha rfl 1 (by decide) q198 (fun _ hx => hx) rfl rfl rfl rfl (Nat.le_of_ble_eq_true rfl) (va_uu _ _ _ _) dJ4_init_19 ?_
  refine g_goto (tgt := 38) C dJ4_init_22 (by decide) ?_
  exact g_vret C hr hlk dJ4_init_38 (Nat.le_of_ble_eq_true rfl) (Nat.le_of_ble_eq_true rfl) ⟨rfl, rfl, rfl⟩
theorem ok_J5_init : yJ5_init.cls ≠ "java/lang/invoke/MethodHandle" ∧ yJ5_init.cls ≠ "java/lang/invoke/VarHandle" ∧ (parseMethodDescriptor yJ5_init.desc).map (fun d => d.parameters.length) = some 0 := by decide +kernel
set_option maxHeartbeats 4000000 in
set_option maxRecDepth 100000 in
theorem met_J5_init {l : Launch} {D : va_G} {b0 n : Nat} {h : GH} {a : Nat} {v0 v1 v2 v3 : Value} (hA : h a = gO 12 [v0, v1, v2, v3]) (ha : b0 ≤ a) : gMet l yJ5_init cJ5_init 1 (none) 2 41 1 16 D b0 h n [.ref a] (pV (fun h' n' => (va_up (va_up h n (gB D 16 (fun _ => 0))) a (gO 12 [.ref n, .int (nI 0), v2, v3])) = h' ∧ (n + 1) = n')) := by
  refine gMet.of (lv := [(0, _)]) (by decide) (Nat.le_of_ble_eq_true rfl) rfl ?_
  intro p_ e_ U0 m_ args_ below_ meth_ co_ C hr hlk hnm
  refine g_aload_n C dJ5_init_0 rfl 0 rfl ?_
  refine g_bipush C dJ5_init_1 kb_16 ?_
  refine g_I1V C (met_J4_init hA ha) (cwI 1 C.2.2.2.2.1 (lw_meth q186) rfl rfl rfl (C.2.2.2.2.1 _ q69) (C.2.2.2.2.1 _ q184) (C.2.2.2.2.1 _ q185) rfl ok_J4_init ⟨(Nat.le_of_ble_eq_true rfl), (Nat.le_of_ble_eq_true rfl)⟩) (Nat.le_of_ble_eq_true rfl) dJ5_init_3 ⟨(Nat.le_of_ble_eq_true rfl), (Nat.le_of_ble_eq_true rfl)⟩ (fun h_3 n_3 hp_3 hn_3 => ?_)
  obtain ⟨rfl, rfl⟩ := hp_3
  exact g_vret C hr hlk dJ5_init_6 (Nat.le_of_ble_eq_true rfl) (Nat.le_of_ble_eq_true rfl) ⟨rfl, rfl, rfl⟩
theorem ok_J6_coder : yJ6_coder.cls = "java/lang/String" ∧ yJ6_coder.cls ≠ "java/lang/invoke/MethodHandle" ∧ yJ6_coder.cls ≠ "java/lang/invoke/VarHandle" ∧ (parseMethodDescriptor yJ6_coder.desc).map (fun d => d.parameters.length) = some 0 := by decide +kernel
set_option maxHeartbeats 4000000 in
set_option maxRecDepth 100000 in
theorem met_J6_coder {l : Launch} {D : va_G} {b0 n : Nat} {h : GH} {i : Nat} (hi4 : i < 4) : gMet l yJ6_coder cJ6_coder 1 ((some .byte)) 0 0 0 0 D b0 h n [.ref (D.1 (210 + i))] (pI (fun r' h' n' => nI 0 = r' ∧ h = h' ∧ n = n')) := by
  refine gMet.of (lv := [(0, _)]) (by decide) (Nat.le_of_ble_eq_true rfl) rfl ?_
  intro p_ e_ U0 m_ args_ below_ meth_ co_ C hr hlk hnm
  refine g_gets C C.2.2.2.2.2.2.2.2.1 q729 (fun _ hx => hx) dJ6_coder_0 ?_
  refine g_if_eq (tgt := 13) C dJ6_coder_3 (by decide) (fun c_3 => absurd c_3 (by decide)) (fun c_3 => ?_)
  refine g_aload_n C dJ6_coder_6 rfl 0 rfl ?_
  refine g_strC C hi4 q1496 dJ6_coder_7 ?_
  refine g_goto (tgt := 14) C dJ6_coder_10 (by decide) ?_
  exact g_iret C hr hlk dJ6_coder_14 (Nat.le_of_ble_eq_true rfl) (Nat.le_of_ble_eq_true rfl) rfl ⟨_, rfl, ⟨rfl, rfl, rfl⟩⟩
theorem ok_J6_isLatin1 : yJ6_isLatin1.cls = "java/lang/String" ∧ yJ6_isLatin1.cls ≠ "java/lang/invoke/MethodHandle" ∧ yJ6_isLatin1.cls ≠ "java/lang/invoke/VarHandle" ∧ (parseMethodDescriptor yJ6_isLatin1.desc).map (fun d => d.parameters.length) = some 0 := by decide +kernel
set_option maxHeartbeats 4000000 in
set_option maxRecDepth 100000 in
theorem met_J6_isLatin1 {l : Launch} {D : va_G} {b0 n : Nat} {h : GH} {i : Nat} (hi4 : i < 4) : gMet l yJ6_isLatin1 cJ6_isLatin1 1 ((some .boolean)) 0 0 0 0 D b0 h n [.ref (D.1 (210 + i))] (pI (fun r' h' n' => bI true = r' ∧ h = h' ∧ n = n')) := by
  refine gMet.of (lv := [(0, _)]) (by decide) (Nat.le_of_ble_eq_true rfl) rfl ?_
  intro p_ e_ U0 m_ args_ below_ meth_ co_ C hr hlk hnm
  refine g_gets C C.2.2.2.2.2.2.2.2.1 q729 (fun _ hx => hx) dJ6_isLatin1_0 ?_
  refine g_if_eq (tgt := 17) C dJ6_isLatin1_3 (by decide) (fun c_3 => absurd c_3 (by decide)) (fun c_3 => ?_)
  refine g_aload_n C dJ6_isLatin1_6 rfl 0 rfl ?_
  refine g_strC C hi4 q1496 dJ6_isLatin1_7 ?_
  refine g_if_neN (tgt := 17) C dJ6_isLatin1_10 (by decide) (by omega) (fun c_10 => absurd rfl c_10) (fun c_10 => ?_)
  refine g_iconst C dJ6_isLatin1_13 kc_1 ?_
  refine g_goto (tgt := 18) C dJ6_isLatin1_14 (by decide) ?_
  exact g_iret C hr hlk dJ6_isLatin1_18 (Nat.le_of_ble_eq_true rfl) (Nat.le_of_ble_eq_true rfl) rfl ⟨_, rfl, ⟨rfl, rfl, rfl⟩⟩
theorem ok_J6_length : yJ6_length.cls = "java/lang/String" ∧ yJ6_length.cls ≠ "java/lang/invoke/MethodHandle" ∧ yJ6_length.cls ≠ "java/lang/invoke/VarHandle" ∧ (parseMethodDescriptor yJ6_length.desc).map (fun d => d.parameters.length) = some 0 := by decide +kernel
set_option maxHeartbeats 4000000 in
set_option maxRecDepth 100000 in
theorem met_J6_length {l : Launch} {D : va_G} {b0 n : Nat} {h : GH} {i : Nat} (hi4 : i < 4) : gMet l yJ6_length cJ6_length 1 ((some .int)) 1 20 0 0 D b0 h n [.ref (D.1 (210 + i))] (pI (fun r' h' n' => nI (gSl.getD i 0) = r' ∧ h = h' ∧ n = n')) := by
  refine gMet.of (lv := [(0, _)]) (by decide) (Nat.le_of_ble_eq_true rfl) rfl ?_
  intro p_ e_ U0 m_ args_ below_ meth_ co_ C hr hlk hnm
  refine g_aload_n C dJ6_length_0 rfl 0 rfl ?_
  refine g_strV C hi4 q1497 dJ6_length_1 ?_
  refine g_strL C hi4 dJ6_length_4 ?_
  refine g_aload_n C dJ6_length_5 rfl 0 rfl ?_
  refine g_T0I C (met_J6_coder hi4) (cwV 0 C.2.2.2.2.1 (lw_V q976 q977 q978 q71 q979) rfl rfl rfl ok_J6_coder ⟨(Nat.le_of_ble_eq_true rfl), (Nat.le_of_ble_eq_true rfl)⟩) hi4 (Nat.le_of_ble_eq_true rfl) dJ6_length_6 ⟨(Nat.le_of_ble_eq_true rfl), (Nat.le_of_ble_eq_true rfl)⟩ (fun r_6 h_6 n_6 hp_6 hn_6 => ?_)
  obtain ⟨rfl, rfl, rfl⟩ := hp_6
  refine g_ishr C dJ6_length_9 ?_
  refine g_topi (y := nI (gSl.getD i 0)) (sb_shr0 _) ?_
  exact g_iret C hr hlk dJ6_length_10 (Nat.le_of_ble_eq_true rfl) (Nat.le_of_ble_eq_true rfl) rfl ⟨_, rfl, ⟨rfl, rfl, rfl⟩⟩
theorem ok_J14_indexOfChar : yJ14_indexOfChar.cls ≠ "java/lang/invoke/MethodHandle" ∧ yJ14_indexOfChar.cls ≠ "java/lang/invoke/VarHandle" ∧ (parseMethodDescriptor yJ14_indexOfChar.desc).map (fun d => d.parameters.length) = some 4 := by decide +kernel
set_option maxHeartbeats 4000000 in
set_option maxRecDepth 100000 in
theorem met_J14_indexOfChar {l : Launch} {D : va_G} {b0 n : Nat} {h : GH} {i c : Nat} (hi4 : i < 4) (hc : c < 128) : gMet l yJ14_indexOfChar cJ14_indexOfChar 6 ((some .int)) 0 0 0 0 D b0 h n [.ref (D.1 (220 + i)), .int (nI c), .int (nI 0), .int (nI (gSl.getD i 0))] (pI (fun r' h' n' => sIxP i (nI c) r' ∧ h = h' ∧ n = n')) := by
  refine gMet.of (lv := [(0, _), (1, _), (2, _), (3, _)]) (by decide) (Nat.le_of_ble_eq_true rfl) rfl ?_
  intro p_ e_ U0 m_ args_ below_ meth_ co_ C hr hlk hnm
  have hl := gSl_le i
  refine g_iload_n C dJ14_indexOfChar_0 rfl 1 rfl ?_
  refine g_i2b C dJ14_indexOfChar_1 (ch_b hc) ?_
  refine g_istore (lv' := [(4, _), (0, _), (1, _), (2, _), (3, _)]) C dJ14_indexOfChar_2 (by decide) rfl ?_
  refine g_iload_n C dJ14_indexOfChar_4 rfl 3 rfl ?_
  refine g_istore (lv' := [(5, _), (4, _), (0, _), (1, _), (2, _), (3, _)]) C dJ14_indexOfChar_5 (by decide) rfl ?_
  have loop : ∀ (N_ j : Nat) , j ≤ gSl.getD i 0 → gSl.getD i 0 < j + N_ → (∀ k, k < j → (gSb.getD i []).getD k 0 ≠ nI c) → gW p_ l e_ (headSpec (ws_ yJ14_indexOfChar cJ14_indexOfChar 6 ((some .int))) (gRm 0 0 0 0)).room U0 m_ args_ below_ meth_ co_ (MQ below_ (gQc D b0 (pI (fun r' h' n' => sIxP i (nI c) r' ∧ h = h' ∧ n = n'))) args_ U0 0 0 (gA b0)) D b0 6 h n 0 0 7 [(0, .ref (D.1 (220 + i))), (1, .int (nI c)), (2, .int (nI 0)), (3, .int (nI (gSl.getD i 0))), (4, .int (nI c)), (5, .int (nI j))] [] := by
    intro N_
    induction N_ with
    | zero => intro j  h1_ h2_; exact absurd h2_ (by omega)
    | succ N_ ih =>
      intro j  h1_ h2_ hk
      refine g_iload C dJ14_indexOfChar_7 5 rfl ?_
      refine g_iload_n C dJ14_indexOfChar_9 rfl 3 rfl ?_
      refine g_icmp_geN (tgt := 31) C dJ14_indexOfChar_10 (by decide) (by omega) (by omega) (fun c_10 => ?_) (fun c_10 => ?_)
      · refine g_iconst C dJ14_indexOfChar_31 kc_m1 ?_
        exact g_iret C hr hlk dJ14_indexOfChar_32 (Nat.le_of_ble_eq_true rfl) (Nat.le_of_ble_eq_true rfl) rfl ⟨_, rfl, ⟨Or.inr ⟨fun k hk2 => hk k (by omega), rfl⟩, rfl, rfl⟩⟩
      · have c_10x : j < gSl.getD i 0 := by omega
        refine g_aload_n C dJ14_indexOfChar_13 rfl 0 rfl ?_
        refine g_iload C dJ14_indexOfChar_14 5 rfl ?_
        refine g_strB C hi4 c_10x (by omega) dJ14_indexOfChar_16 ?_
        refine g_iload C dJ14_indexOfChar_17 4 rfl ?_
        refine g_icmp_ne (tgt := 25) C dJ14_indexOfChar_19 (by decide) (fun c_19 => ?_) (fun c_19 => ?_)
        · refine g_iinc (lv' := [(5, _), (0, _), (1, _), (2, _), (3, _), (4, _)]) (t := 5) C dJ14_indexOfChar_25 rfl (nI_1 _) (by decide) rfl ?_
          refine g_goto (tgt := 7) C dJ14_indexOfChar_28 (by decide) ?_
          refine g_pick (lv' := [(0, _), (1, _), (2, _), (3, _), (4, _), (5, _)]) [1, 2, 3, 4, 5, 0] rfl ?_
          exact ih (j + 1) (by omega) (by omega) (fun k hk2 => (Nat.lt_or_ge k j).elim (hk k) (fun e => by rw [show k = j by omega]; exact c_19))
        · refine g_iload C dJ14_indexOfChar_22 5 rfl ?_
          exact g_iret C hr hlk dJ14_indexOfChar_24 (Nat.le_of_ble_eq_true rfl) (Nat.le_of_ble_eq_true rfl) rfl ⟨_, rfl, ⟨Or.inl ⟨j, c_10x, c_19, rfl⟩, rfl, rfl⟩⟩
  refine g_pick (lv' := [(0, _), (1, _), (2, _), (3, _), (4, _), (5, _)]) [2, 3, 4, 5, 1, 0] rfl ?_
  exact loop (gSl.getD i 0 + 1) 0 (by omega) (by omega) (fun k hk => absurd hk (by omega))
theorem ok_J14_indexOf : yJ14_indexOf.cls ≠ "java/lang/invoke/MethodHandle" ∧ yJ14_indexOf.cls ≠ "java/lang/invoke/VarHandle" ∧ (parseMethodDescriptor yJ14_indexOf.desc).map (fun d => d.parameters.length) = some 4 := by decide +kernel
set_option maxHeartbeats 4000000 in
set_option maxRecDepth 100000 in
theorem met_J14_indexOf {l : Launch} {D : va_G} {b0 n : Nat} {h : GH} {i c : Nat} (hi4 : i < 4) (hc : c < 128) : gMet l yJ14_indexOf cJ14_indexOf 4 ((some .int)) 1 25 0 0 D b0 h n [.ref (D.1 (220 + i)), .int (nI c), .int (nI 0), .int (nI (gSl.getD i 0))] (pI (fun r' h' n' => sIxP i (nI c) r' ∧ h = h' ∧ n = n')) := by
  refine gMet.of (lv := [(0, _), (1, _), (2, _), (3, _)]) (by decide) (Nat.le_of_ble_eq_true rfl) rfl ?_
  intro p_ e_ U0 m_ args_ below_ meth_ co_ C hr hlk hnm
  have hl := gSl_le i
  have hl0 : 0 < gSl.getD i 0 := by match i, hi4 with
                                          | 0, _ => decide
                                          | 1, _ => decide
                                          | 2, _ => decide
                                          | 3, _ => decide
  refine g_iload_n C dJ14_indexOf_0 rfl 1 rfl ?_
  refine g_S1I C (met_J14_canEncode_2 (by omega)) (va_cwS 1 C.2.2.2.2.1 (lw_S q983 q984 q84 q985) rfl rfl rfl ok_J14_canEncode_2 ⟨(Nat.le_of_ble_eq_true rfl), (Nat.le_of_ble_eq_true rfl)⟩) (Nat.le_of_ble_eq_true rfl) dJ14_indexOf_1 ⟨(Nat.le_of_ble_eq_true rfl), (Nat.le_of_ble_eq_true rfl)⟩ (fun r_1 h_1 n_1 hp_1 hn_1 => ?_)
  obtain ⟨rfl, rfl, rfl⟩ := hp_1
  refine g_if_neB (tgt := 9) C dJ14_indexOf_4 (by decide) (fun c_4 => ?_) (fun c_4 => absurd c_4 (by decide))
  refine g_iload_n C dJ14_indexOf_9 rfl 2 rfl ?_
  refine g_iconst C dJ14_indexOf_10 kc_0 ?_
  refine g_S2I C (met_J9_max (by omega) (by omega)) (va_cwS 2 C.2.2.2.2.1 (lw_S q986 q276 q75 q277) rfl rfl rfl ok_J9_max ⟨(Nat.le_of_ble_eq_true rfl), (Nat.le_of_ble_eq_true rfl)⟩) (Nat.le_of_ble_eq_true rfl) dJ14_indexOf_11 ⟨(Nat.le_of_ble_eq_true rfl), (Nat.le_of_ble_eq_true rfl)⟩ (fun r_11 h_11 n_11 hp_11 hn_11 => ?_)
  obtain ⟨rfl, rfl, rfl⟩ := hp_11
  refine g_topi (y := nI 0) (by rw [Nat.max_self]) ?_
  refine g_istore_n (lv' := [(2, _), (0, _), (1, _), (3, _)]) C dJ14_indexOf_14 rfl (by decide) rfl ?_
  refine g_iload_n C dJ14_indexOf_15 rfl 3 rfl ?_
  refine g_aload_n C dJ14_indexOf_16 rfl 1 rfl ?_
  refine g_strL C hi4 dJ14_indexOf_17 ?_
  refine g_S2I C (met_J9_min (by omega) (by omega)) (va_cwS 2 C.2.2.2.2.1 (lw_S q987 q309 q75 q310) rfl rfl rfl ok_J9_min ⟨(Nat.le_of_ble_eq_true rfl), (Nat.le_of_ble_eq_true rfl)⟩) (Nat.le_of_ble_eq_true rfl) dJ14_indexOf_18 ⟨(Nat.le_of_ble_eq_true rfl), (Nat.le_of_ble_eq_true rfl)⟩ (fun r_18 h_18 n_18 hp_18 hn_18 => ?_)
  obtain ⟨rfl, rfl, rfl⟩ := hp_18
  refine g_topi (y := nI (gSl.getD i 0)) (by rw [Nat.min_self]) ?_
  refine g_istore_n (lv' := [(3, _), (2, _), (0, _), (1, _)]) C dJ14_indexOf_21 rfl (by decide) rfl ?_
  refine g_iload_n C dJ14_indexOf_22 rfl 1 rfl ?_
  refine g_iload_n C dJ14_indexOf_23 rfl 0 rfl ?_
  refine g_icmp_ltN (tgt := 29) C dJ14_indexOf_24 (by decide) (by omega) (by omega) (fun c_24 => ?_) (fun c_24 => absurd c_24 (by omega))
  refine g_aload_n C dJ14_indexOf_29 rfl 2 rfl ?_
  refine g_iload_n C dJ14_indexOf_30 rfl 3 rfl ?_
  refine g_iload_n C dJ14_indexOf_31 rfl 1 rfl ?_
  refine g_iload_n C dJ14_indexOf_32 rfl 0 rfl ?_
  refine g_S4I C (met_J14_indexOfChar hi4 hc) (va_cwS 4 C.2.2.2.2.1 (lw_S q988 q989 q84 q990) rfl rfl rfl ok_J14_indexOfChar ⟨(Nat.le_of_ble_eq_true rfl), (Nat.le_of_ble_eq_true rfl)⟩) (Nat.le_of_ble_eq_true rfl) dJ14_indexOf_33 ⟨(Nat.le_of_ble_eq_true rfl), (Nat.le_of_ble_eq_true rfl)⟩ (fun r_33 h_33 n_33 hp_33 hn_33 => ?_)
  obtain ⟨hs_33, rfl, rfl⟩ := hp_33
  exact g_iret C hr hlk dJ14_indexOf_36 (Nat.le_of_ble_eq_true rfl) (Nat.le_of_ble_eq_true rfl) rfl ⟨_, rfl, ⟨hs_33, rfl, rfl⟩⟩
theorem ok_J6_indexOf_2 : yJ6_indexOf_2.cls = "java/lang/String" ∧ yJ6_indexOf_2.cls ≠ "java/lang/invoke/MethodHandle" ∧ yJ6_indexOf_2.cls ≠ "java/lang/invoke/VarHandle" ∧ (parseMethodDescriptor yJ6_indexOf_2.desc).map (fun d => d.parameters.length) = some 2 := by decide +kernel
set_option maxHeartbeats 4000000 in
set_option maxRecDepth 100000 in
theorem met_J6_indexOf_2 {l : Launch} {D : va_G} {b0 n : Nat} {h : GH} {i c : Nat} (hi4 : i < 4) (hc : c < 128) : gMet l yJ6_indexOf_2 cJ6_indexOf_2 3 ((some .int)) 2 48 0 0 D b0 h n [.ref (D.1 (210 + i)), .int (nI c), .int (nI 0)] (pI (fun r' h' n' => sIxP i (nI c) r' ∧ h = h' ∧ n = n')) := by
  refine gMet.of (lv := [(0, _), (1, _), (2, _)]) (by decide) (Nat.le_of_ble_eq_true rfl) rfl ?_
  intro p_ e_ U0 m_ args_ below_ meth_ co_ C hr hlk hnm
  refine g_aload_n C dJ6_indexOf_2_0 rfl 0 rfl ?_
  refine g_T0I C (met_J6_isLatin1 hi4) (cwV 0 C.2.2.2.2.1 (lw_V q968 q969 q970 q71 q971) rfl rfl rfl ok_J6_isLatin1 ⟨(Nat.le_of_ble_eq_true rfl), (Nat.le_of_ble_eq_true rfl)⟩) hi4 (Nat.le_of_ble_eq_true rfl) dJ6_indexOf_2_1 ⟨(Nat.le_of_ble_eq_true rfl), (Nat.le_of_ble_eq_true rfl)⟩ (fun r_1 h_1 n_1 hp_1 hn_1 => ?_)
  obtain ⟨rfl, rfl, rfl⟩ := hp_1
  refine g_if_eqB (tgt := 23) C dJ6_indexOf_2_4 (by decide) (fun c_4 => absurd c_4 (by decide)) (fun c_4 => ?_)
  refine g_aload_n C dJ6_indexOf_2_7 rfl 0 rfl ?_
  refine g_strV C hi4 q1497 dJ6_indexOf_2_8 ?_
  refine g_iload_n C dJ6_indexOf_2_11 rfl 1 rfl ?_
  refine g_iload_n C dJ6_indexOf_2_12 rfl 2 rfl ?_
  refine g_aload_n C dJ6_indexOf_2_13 rfl 0 rfl ?_
  refine g_T0I C (met_J6_length hi4) (cwV 0 C.2.2.2.2.1 (lw_V q972 q973 q974 q71 q975) rfl rfl rfl ok_J6_length ⟨(Nat.le_of_ble_eq_true rfl), (Nat.le_of_ble_eq_true rfl)⟩) hi4 (Nat.le_of_ble_eq_true rfl) dJ6_indexOf_2_14 ⟨(Nat.le_of_ble_eq_true rfl), (Nat.le_of_ble_eq_true rfl)⟩ (fun r_14 h_14 n_14 hp_14 hn_14 => ?_)
  obtain ⟨rfl, rfl, rfl⟩ := hp_14
  refine g_S4I C (met_J14_indexOf hi4 hc) (va_cwS 4 C.2.2.2.2.1 (lw_S q980 q981 q84 q982) rfl rfl rfl ok_J14_indexOf ⟨(Nat.le_of_ble_eq_true rfl), (Nat.le_of_ble_eq_true rfl)⟩) (Nat.le_of_ble_eq_true rfl) dJ6_indexOf_2_17 ⟨(Nat.le_of_ble_eq_true rfl), (Nat.le_of_ble_eq_true rfl)⟩ (fun r_17 h_17 n_17 hp_17 hn_17 => ?_)
  obtain ⟨hs_17, rfl, rfl⟩ := hp_17
  refine g_goto (tgt := 36) C dJ6_indexOf_2_20 (by decide) ?_
  exact g_iret C hr hlk dJ6_indexOf_2_36 (Nat.le_of_ble_eq_true rfl) (Nat.le_of_ble_eq_true rfl) rfl ⟨_, rfl, ⟨hs_17, rfl, rfl⟩⟩
theorem ok_J6_indexOf : yJ6_indexOf.cls = "java/lang/String" ∧ yJ6_indexOf.cls ≠ "java/lang/invoke/MethodHandle" ∧ yJ6_indexOf.cls ≠ "java/lang/invoke/VarHandle" ∧ (parseMethodDescriptor yJ6_indexOf.desc).map (fun d => d.parameters.length) = some 1 := by decide +kernel
set_option maxHeartbeats 4000000 in
set_option maxRecDepth 100000 in
theorem met_J6_indexOf {l : Launch} {D : va_G} {b0 n : Nat} {h : GH} {i c : Nat} (hi4 : i < 4) (hc : c < 128) : gMet l yJ6_indexOf cJ6_indexOf 2 ((some .int)) 3 70 0 0 D b0 h n [.ref (D.1 (210 + i)), .int (nI c)] (pI (fun r' h' n' => sIxP i (nI c) r' ∧ h = h' ∧ n = n')) := by
  refine gMet.of (lv := [(0, _), (1, _)]) (by decide) (Nat.le_of_ble_eq_true rfl) rfl ?_
  intro p_ e_ U0 m_ args_ below_ meth_ co_ C hr hlk hnm
  refine g_aload_n C dJ6_indexOf_0 rfl 0 rfl ?_
  refine g_iload_n C dJ6_indexOf_1 rfl 1 rfl ?_
  refine g_iconst C dJ6_indexOf_2 kc_0 ?_
  refine g_T2I C (met_J6_indexOf_2 hi4 hc) (cwV 2 C.2.2.2.2.1 (lw_V q964 q965 q966 q71 q967) rfl rfl rfl ok_J6_indexOf_2 ⟨(Nat.le_of_ble_eq_true rfl), (Nat.le_of_ble_eq_true rfl)⟩) hi4 (Nat.le_of_ble_eq_true rfl) dJ6_indexOf_3 ⟨(Nat.le_of_ble_eq_true rfl), (Nat.le_of_ble_eq_true rfl)⟩ (fun r_3 h_3 n_3 hp_3 hn_3 => ?_)
  obtain ⟨hs_3, rfl, rfl⟩ := hp_3
  exact g_iret C hr hlk dJ6_indexOf_6 (Nat.le_of_ble_eq_true rfl) (Nat.le_of_ble_eq_true rfl) rfl ⟨_, rfl, ⟨hs_3, rfl, rfl⟩⟩
