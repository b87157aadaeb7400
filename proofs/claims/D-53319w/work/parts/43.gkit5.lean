theorem born_X0 : ∀ j, j < 3 → defaultValue (tyX0 j) = vp_V ([.null, .null, .null] : List Value) j := by
  intro j hj
  match j, hj with
  | 0, _ => rfl
  | 1, _ => rfl
  | 2, _ => rfl
theorem born_X1 : ∀ j, j < 5 → defaultValue (tyX1 j) = vp_V ([.int 0, .int 0, .null, .null, .null] : List Value) j := by
  intro j hj
  match j, hj with
  | 0, _ => rfl
  | 1, _ => rfl
  | 2, _ => rfl
  | 3, _ => rfl
  | 4, _ => rfl
theorem born_X2 : ∀ j, j < 6 → defaultValue (tyX2 j) = vp_V ([.null, .null, .int 0, .int 0, .float 0, .int 0] : List Value) j := by
  intro j hj
  match j, hj with
  | 0, _ => rfl
  | 1, _ => rfl
  | 2, _ => rfl
  | 3, _ => rfl
  | 4, _ => rfl
  | 5, _ => rfl
theorem born_X3 : ∀ j, j < 4 → defaultValue (tyX3 j) = vp_V ([.int 0, .int 0, .int 0, .int 0] : List Value) j := by
  intro j hj
  match j, hj with
  | 0, _ => rfl
  | 1, _ => rfl
  | 2, _ => rfl
  | 3, _ => rfl
theorem born_X4 : ∀ j, j < 7 → defaultValue (tyX4 j) = vp_V ([.null, .null, .null, .int 0, .null, .int 0, .null] : List Value) j := by
  intro j hj
  match j, hj with
  | 0, _ => rfl
  | 1, _ => rfl
  | 2, _ => rfl
  | 3, _ => rfl
  | 4, _ => rfl
  | 5, _ => rfl
  | 6, _ => rfl
theorem born_X5 : ∀ j, j < 2 → defaultValue (tyX5 j) = vp_V ([.int 0, .int 0] : List Value) j := by
  intro j hj
  match j, hj with
  | 0, _ => rfl
  | 1, _ => rfl
theorem born_X6 : ∀ j, j < 3 → defaultValue (tyX6 j) = vp_V ([.null, .int 0, .null] : List Value) j := by
  intro j hj
  match j, hj with
  | 0, _ => rfl
  | 1, _ => rfl
  | 2, _ => rfl
theorem born_J2 : ∀ j, j < 3 → defaultValue (tyJ2 j) = vp_V ([.int 0, .null, .int 0] : List Value) j := by
  intro j hj
  match j, hj with
  | 0, _ => rfl
  | 1, _ => rfl
  | 2, _ => rfl
theorem born_X8 : ∀ j, j < 3 → defaultValue (tyX8 j) = vp_V ([.int 0, .int 0, .int 0] : List Value) j := by
  intro j hj
  match j, hj with
  | 0, _ => rfl
  | 1, _ => rfl
  | 2, _ => rfl
theorem born_X9 : ∀ j, j < 2 → defaultValue (tyX9 j) = vp_V ([.int 0, .int 0] : List Value) j := by
  intro j hj
  match j, hj with
  | 0, _ => rfl
  | 1, _ => rfl
theorem born_J3 : ∀ j, j < 3 → defaultValue (tyJ3 j) = vp_V ([.null, .int 0, .int 0] : List Value) j := by
  intro j hj
  match j, hj with
  | 0, _ => rfl
  | 1, _ => rfl
  | 2, _ => rfl
theorem born_J11 : ∀ j, j < 4 → defaultValue (tyJ11 j) = vp_V ([.int 0, .int 0, .int 0, .null] : List Value) j := by
  intro j hj
  match j, hj with
  | 0, _ => rfl
  | 1, _ => rfl
  | 2, _ => rfl
  | 3, _ => rfl
theorem born_J5 : ∀ j, j < 4 → defaultValue (tyJ5 j) = vp_V ([.null, .int 0, .int 0, .int 0] : List Value) j := by
  intro j hj
  match j, hj with
  | 0, _ => rfl
  | 1, _ => rfl
  | 2, _ => rfl
  | 3, _ => rfl
theorem okF_hasNext : (⟨"java/util/Iterator", "hasNext", "()Z"⟩ : MethodName).cls ≠ "java/lang/invoke/MethodHandle" ∧ (⟨"java/util/Iterator", "hasNext", "()Z"⟩ : MethodName).cls ≠ "java/lang/invoke/VarHandle" ∧ (parseMethodDescriptor (⟨"java/util/Iterator", "hasNext", "()Z"⟩ : MethodName).desc).map (fun d => d.parameters.length) = some 0 := by decide +kernel
theorem okF_next : (⟨"java/util/Iterator", "next", "()Ljava/lang/Object;"⟩ : MethodName).cls ≠ "java/lang/invoke/MethodHandle" ∧ (⟨"java/util/Iterator", "next", "()Ljava/lang/Object;"⟩ : MethodName).cls ≠ "java/lang/invoke/VarHandle" ∧ (parseMethodDescriptor (⟨"java/util/Iterator", "next", "()Ljava/lang/Object;"⟩ : MethodName).desc).map (fun d => d.parameters.length) = some 0 := by decide +kernel
section GROWS5
variable {p : Program} {l : Launch} {e : Env} {R : Room} {s : State} {m : MethodId} {args : Array Value} {below : List Frame} {meth : Method} {c : Code} {Q : State → Prop} {D : va_G} {b0 nL : Nat} {h h' : GH} {n cells slots pc : Nat} {lv lv' : List (Nat × Value)} {rest : List Value} {cc : ByteArray} {own : String}
theorem g_aastG {a v n0 i : Nat} {f : Nat → Option Nat} (C : gC p s m args c own cc nL D b0) (he : h a = gP D 102 n0 f) (ha : b0 ≤ a) (hv : gObj h v) (hi : i < n0) (hn : n0 < 2 ^ 31) (hh : va_up h a (gP D 102 n0 (va_up f i (some v))) = h') (d : decode cc pc = .ok (.aastore, 1)) (k : gW p l e R s m args below meth c Q D b0 nL h' n cells slots (pc + 1) lv rest) : gW p l e R s m args below meth c Q D b0 nL h n cells slots pc lv (.ref v :: .int (nI i) :: .ref a :: rest) := by
  obtain ⟨ci, fs, Cn, T, N, e1, e2, e3⟩ := hv
  exact g_aastO C he ha e1 e2 e3 hi hn hh d k
theorem g_getsq {ref : String} {index : Nat} (C : gC p s m args c own cc nL D b0) (q : Cond.fieldLink own index "jdk/internal/util/Preconditions" "SIOOBE_FORMATTER" "Ljava/util/function/BiFunction;" ∈ lw_all) (d : decode cc pc = .ok (.getstatic index, 3)) (k : ∀ v : Option Nat, gW p l e R s m args below meth c Q D b0 nL h n cells slots (pc + 3) lv (va_rf v :: rest)) : gW p l e R s m args below meth c Q D b0 nL h n cells slots pc lv rest := by
  rcases C.2.2.2.2.2.2.2.2.2.1 with hz | ⟨t, hz⟩
  · exact g_gets C hz q (fun _ hx => hx) d (k none)
  · exact g_gets C hz q (fun _ hx => hx) d (k (some t))
theorem g_bastN {a n0 : Nat} {f : Nat → Int32} {i : Nat} {x : Int32} (C : gC p s m args c own cc nL D b0) (he : h a = gB D n0 f) (ha : b0 ≤ a) (hi : i < n0) (hn : n0 < 2 ^ 31) (hx : vp_nar .byte x = x) (hh : va_up h a (gB D n0 (upd f i x)) = h') (d : decode cc pc = .ok (.bastore, 1)) (k : gW p l e R s m args below meth c Q D b0 nL h' n cells slots (pc + 1) lv rest) : gW p l e R s m args below meth c Q D b0 nL h n cells slots pc lv (.int x :: .int (nI i) :: .ref a :: rest) := by
  intro H locs ls h1 h2 h3 h4
  have hc := nI_clamp (show i < 2 ^ 31 by omega)
  refine W.bast C.1 C.2.1 (h2 a _ he) ((C.2.2.2.2.2.1.1.2 1 _ rfl).1 n0 (fun j => .int (f j))) (fun q => by cases q) (by show ¬ (nI i < 0 ∨ (arrV _ _ _).slots.size ≤ _); rw [arrV_size]; exact vp_in_nI hi hn) rfl rfl d fun H1 e z oq => ?_
  refine k H1 _ ls (z.trans h1) ?_ (h3.put z oq ha) h4
  rw [← hh]
  refine h2.put (e := .inl (.inl (D.1 101, n0, .inl (upd f i x)))) ?_ oq
  show H1[a]? = some (vp_cell _ _)
  rw [e, vp_cell_i, vp_cell_i, arrV_store, hc]
  congr 2
  funext q
  by_cases hq : q = i
  · subst hq
    have hx' : narrow .byte (.int x) = .int (vp_nar .byte x) := rfl
    simp [updV, upd, hx', hx]
  · simp [updV, upd, hq]
/-- a text of the Reader -/
theorem g_ldcS {tx : String} {index q : Nat} (C : gC p s m args c own cc nL D b0) (hZ : vk_R own index tx q s) (d : decode cc pc = .ok (.ldc index, 2)) (k : gW p l e R s m args below meth c Q D b0 nL h n cells slots (pc + 2) lv (.ref q :: rest)) : gW p l e R s m args below meth c Q D b0 nL h n cells slots pc lv rest :=
  fun H locs ls h1 h2 h3 h4 => va_ldcS C.1 C.2.1 C.2.2.2.1 hZ d (k H locs ls h1 h2 h3 h4)
theorem g_strV {i index : Nat} (C : gC p s m args c own cc nL D b0) (hi : i < 4) (q : Cond.fieldLink own index "java/lang/String" "value" "[B" ∈ lw_all) (d : decode cc pc = .ok (.getfield index, 3)) (k : gW p l e R s m args below meth c Q D b0 nL h n cells slots (pc + 3) lv (.ref (D.1 (220 + i)) :: rest)) : gW p l e R s m args below meth c Q D b0 nL h n cells slots pc lv (.ref (D.1 (210 + i)) :: rest) :=
  fun H locs ls h1 h2 h3 h4 => vk_getf C.1 C.2.1 (C.2.2.2.2.2.2.2.2.2.2.1 i hi).2.2.1 h3 C.2.2.2.1 (C.2.2.2.2.1 _ q) (fun _ hx => hx) d (k H locs ls h1 h2 h3 h4)
theorem g_strC {i index : Nat} (C : gC p s m args c own cc nL D b0) (hi : i < 4) (q : Cond.fieldLink own index "java/lang/String" "coder" "B" ∈ lw_all) (d : decode cc pc = .ok (.getfield index, 3)) (k : gW p l e R s m args below meth c Q D b0 nL h n cells slots (pc + 3) lv (.int (nI 0) :: rest)) : gW p l e R s m args below meth c Q D b0 nL h n cells slots pc lv (.ref (D.1 (210 + i)) :: rest) :=
  fun H locs ls h1 h2 h3 h4 => vk_getf C.1 C.2.1 (C.2.2.2.2.2.2.2.2.2.2.1 i hi).2.1 h3 C.2.2.2.1 (C.2.2.2.2.1 _ q) (fun _ hx => hx) d (k H locs ls h1 h2 h3 h4)
theorem g_strL {i : Nat} (C : gC p s m args c own cc nL D b0) (hi : i < 4) (d : decode cc pc = .ok (.arraylength, 1)) (k : gW p l e R s m args below meth c Q D b0 nL h n cells slots (pc + 1) lv (.int (nI (gSl.getD i 0)) :: rest)) : gW p l e R s m args below meth c Q D b0 nL h n cells slots pc lv (.ref (D.1 (220 + i)) :: rest) :=
  fun H locs ls h1 h2 h3 h4 => va_tlen C.1 C.2.1 (C.2.2.2.2.2.2.2.2.2.2.1 i hi).2.2.2 h3 rfl d (k H locs ls h1 h2 h3 h4)
theorem g_strB {i j : Nat} (C : gC p s m args c own cc nL D b0) (hi : i < 4) (hj : j < gSl.getD i 0) (hj2 : j < 2 ^ 31) (d : decode cc pc = .ok (.baload, 1)) (k : gW p l e R s m args below meth c Q D b0 nL h n cells slots (pc + 1) lv (.int ((gSb.getD i []).getD j 0) :: rest)) : gW p l e R s m args below meth c Q D b0 nL h n cells slots pc lv (.int (nI j) :: .ref (D.1 (220 + i)) :: rest) :=
  fun H locs ls h1 h2 h3 h4 => va_tb C.1 C.2.1 (C.2.2.2.2.2.2.2.2.2.2.1 i hi).2.2.2 h3 (by
    intro hc
    rw [nI_clamp hj2] at hc
    rcases hc with hc | hc
    · exact nI_pos hj2 hc
    · omega) (by rw [nI_clamp hj2]) d (k H locs ls h1 h2 h3 h4)
variable {y : MethodName} {bytes : ByteArray} {maxL fr lo mc ms index i : Nat} {ret : Option FieldType} {post : Option Value → GH → Nat → Prop}
theorem g_runT (As : List Value) (rest : List Value) {st0 : List Value} (C : gC p s m args c own cc nL D b0) (hM : gMet l y bytes maxL ret fr lo mc ms D b0 h n (.ref (D.1 (210 + i)) :: As) post) (cw : CallW R s args own "java/lang/String" index y bytes maxL ret (ws_ y bytes maxL ret) (gRm fr lo mc ms) mc ms As.length) (hi : i < 4) (hst : st0 = As.reverse ++ .ref (D.1 (210 + i)) :: rest) (hw : (rest.map fun v => v.category).sum ≤ 8) (d : decode cc pc = .ok (.invokevirtual index, 3)) (hf : cells + mc ≤ R.cells ∧ slots + ms ≤ R.slots)
    (k : ∀ (v : Option Value) (h1 : GH) (n1 : Nat), post v h1 n1 → n ≤ n1 → gW p l e R s m args below meth c Q D b0 nL h1 n1 (cells + mc) (slots + ms) (pc + 3) lv (v.toList ++ rest)) : gW p l e R s m args below meth c Q D b0 nL h n cells slots pc lv st0 :=
  g_call (fun H locs ls h1 h2 h3 h4 => va_runV (As := As) (rest := rest) (g_fixed C) hM cw ⟨gPc_blind, vk_recv C.2.2.2.2.2.2.2.2.2.2 hi h3, gPc_use C h1 h2 h3⟩ rfl rfl h4.1 hst (lv_room hw) d hf) k
theorem g_T0I {pst : Int32 → GH → Nat → Prop} (C : gC p s m args c own cc nL D b0) (hM : gMet l y bytes maxL ret fr lo mc ms D b0 h n (.ref (D.1 (210 + i)) :: []) (pI pst)) (cw : CallW R s args own "java/lang/String" index y bytes maxL ret (ws_ y bytes maxL ret) (gRm fr lo mc ms) mc ms 0) (hi : i < 4) (hw : (rest.map fun v => v.category).sum ≤ 8) (d : decode cc pc = .ok (.invokevirtual index, 3)) (hf : cells + mc ≤ R.cells ∧ slots + ms ≤ R.slots) (k : ∀ (r : Int32) (h1 : GH) (n1 : Nat), pst r h1 n1 → n ≤ n1 → gW p l e R s m args below meth c Q D b0 nL h1 n1 (cells + mc) (slots + ms) (pc + 3) lv (.int r :: rest)) : gW p l e R s m args below meth c Q D b0 nL h n cells slots pc lv (.ref (D.1 (210 + i)) :: rest) :=
  g_runT [] rest C hM cw hi rfl hw d hf (fun v h1 n1 hp hn => by obtain ⟨r, rfl, hp⟩ := hp; exact k r h1 n1 hp hn)
theorem g_T1I {a1 : Value} {pst : Int32 → GH → Nat → Prop} (C : gC p s m args c own cc nL D b0) (hM : gMet l y bytes maxL ret fr lo mc ms D b0 h n (.ref (D.1 (210 + i)) :: [a1]) (pI pst)) (cw : CallW R s args own "java/lang/String" index y bytes maxL ret (ws_ y bytes maxL ret) (gRm fr lo mc ms) mc ms 1) (hi : i < 4) (hw : (rest.map fun v => v.category).sum ≤ 8) (d : decode cc pc = .ok (.invokevirtual index, 3)) (hf : cells + mc ≤ R.cells ∧ slots + ms ≤ R.slots) (k : ∀ (r : Int32) (h1 : GH) (n1 : Nat), pst r h1 n1 → n ≤ n1 → gW p l e R s m args below meth c Q D b0 nL h1 n1 (cells + mc) (slots + ms) (pc + 3) lv (.int r :: rest)) : gW p l e R s m args below meth c Q D b0 nL h n cells slots pc lv (a1 :: .ref (D.1 (210 + i)) :: rest) :=
  g_runT [a1] rest C hM cw hi rfl hw d hf (fun v h1 n1 hp hn => by obtain ⟨r, rfl, hp⟩ := hp; exact k r h1 n1 hp hn)
theorem g_T2I {a1 a2 : Value} {pst : Int32 → GH → Nat → Prop} (C : gC p s m args c own cc nL D b0) (hM : gMet l y bytes maxL ret fr lo mc ms D b0 h n (.ref (D.1 (210 + i)) :: [a1, a2]) (pI pst)) (cw : CallW R s args own "java/lang/String" index y bytes maxL ret (ws_ y bytes maxL ret) (gRm fr lo mc ms) mc ms 2) (hi : i < 4) (hw : (rest.map fun v => v.category).sum ≤ 8) (d : decode cc pc = .ok (.invokevirtual index, 3)) (hf : cells + mc ≤ R.cells ∧ slots + ms ≤ R.slots) (k : ∀ (r : Int32) (h1 : GH) (n1 : Nat), pst r h1 n1 → n ≤ n1 → gW p l e R s m args below meth c Q D b0 nL h1 n1 (cells + mc) (slots + ms) (pc + 3) lv (.int r :: rest)) : gW p l e R s m args below meth c Q D b0 nL h n cells slots pc lv (a2 :: a1 :: .ref (D.1 (210 + i)) :: rest) :=
  g_runT [a1, a2] rest C hM cw hi rfl hw d hf (fun v h1 n1 hp hn => by obtain ⟨r, rfl, hp⟩ := hp; exact k r h1 n1 hp hn)
end GROWS5
