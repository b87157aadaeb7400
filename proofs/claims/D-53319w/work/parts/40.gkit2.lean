/-! Rows that make cells; arrays of references; casts; other calls. -/
theorem va_S.grow {A : Nat → Prop} {H0 H H1 : Heap} {locs : List Loc} (h : va_S A H0 H locs) (z : H.size ≤ H1.size) (o : ∀ q : Nat, q < H.size → H1[q]? = H[q]?) : va_S A H0 H1 locs :=
  ⟨Nat.le_trans h.1 z, fun q h1 h2 => (o q (Nat.lt_of_lt_of_le h1 h.1)).trans (h.2.1 q h1 h2), h.2.2⟩
theorem push_at (H : Heap) (x : Cell) : (H.push x)[H.size]? = some x := Array.getElem?_push_size
theorem push_old (H : Heap) (x : Cell) {q : Nat} (hq : q < H.size) : (H.push x)[q]? = H[q]? := by rw [Array.getElem?_push, if_neg (Nat.ne_of_lt hq)]
theorem gAI.use {A : Array Value} {U : State} (h : gAI U) : (Cond.arrayOver (.array .int)).before A U = true := h
section GROWS2
variable {p : Program} {l : Launch} {e : Env} {R : Room} {s : State} {m : MethodId} {args : Array Value} {below : List Frame} {meth : Method} {c : Code} {Q : State → Prop} {D : va_G} {b0 nL : Nat} {h h' : GH} {n cells slots pc : Nat} {lv lv' : List (Nat × Value)} {rest : List Value} {cc : ByteArray} {own : String}
theorem g_objInit {idx a : Nat} (C : gC p s m args c own cc nL D b0) (q : Cond.methodLink own idx Lib.objectInit ∈ lw_all) (d : decode cc pc = .ok (.invokespecial idx, 3)) (hfr : 1 ≤ R.frames) (hlo : (rest.map fun v => v.category).sum + 12 ≤ R.locals) (k : gW p l e R s m args below meth c Q D b0 nL h n cells slots (pc + 3) lv rest) : gW p l e R s m args below meth c Q D b0 nL h n cells slots pc lv (.ref a :: rest) :=
  fun H locs ls h1 h2 h3 h4 => W.objInit C.1 C.2.1 C.2.2.2.1 (C.2.2.2.2.1 _ q) (C.2.2.2.2.1 _ q102) (C.2.2.2.2.1 _ q103) rfl (h4.1.trans C.2.2.1.symm) rfl d hfr (by show 2 * 0 + _ + 12 ≤ _; omega) (k H locs ls h1 h2 h3 h4)
theorem g_f2bits {index : Nat} {b : UInt32} (C : gC p s m args c own cc nL D b0) (q : Cond.methodLink own index ⟨"java/lang/Float", "floatToRawIntBits", "(F)I"⟩ ∈ lw_all) (qn : Cond.native ⟨"java/lang/Float", "floatToRawIntBits", "(F)I"⟩ ∈ lw_all) (qs : Cond.static ⟨"java/lang/Float", "floatToRawIntBits", "(F)I"⟩ ∈ lw_all) (qi : Cond.initialized "java/lang/Float" ∈ lw_all) (d : decode cc pc = .ok (.invokestatic index, 3)) (hfr : 1 ≤ R.frames) (hlo : (rest.map fun v => v.category).sum + 15 ≤ R.locals) (k : gW p l e R s m args below meth c Q D b0 nL h n cells slots (pc + 3) lv (.int b.toInt32 :: rest)) : gW p l e R s m args below meth c Q D b0 nL h n cells slots pc lv (.float b :: rest) :=
  fun H locs ls h1 h2 h3 h4 => vn_f2i C.1 C.2.1 (C.2.2.1.trans h4.1.symm) C.2.2.2.1 (C.2.2.2.2.1 _ q) (C.2.2.2.2.1 _ qn) (C.2.2.2.2.1 _ qs) (C.2.2.2.2.1 _ qi) hfr hlo d (k H locs ls h1 h2 h3 h4)
/-- a new object: its address is the heap's size -/
theorem g_new {Cn : String} {T : u_T} {N ci index : Nat} {fs : List Value} (C : gC p s m args c own cc nL D b0) (hin : ∀ w ∈ u_ws Cn T N, w ∈ lw_all) (ty : Nat → FieldType) (hty : ∀ k, k < N → parseFieldDescriptor (T k).2.2.1 = some (ty k)) (ql : Cond.classLink own index Cn ∈ lw_all) (qi : Cond.instantiable Cn N ∈ lw_all) (qn : Cond.initialized Cn ∈ lw_all) (hc : vwCl[ci]? = some (Cn, T, N)) (hfs : ∀ j, j < N → defaultValue (ty j) = vp_V fs j) (hcells : cells + 1 ≤ R.cells) (hslots : slots + N ≤ R.slots) (d : decode cc pc = .ok (.new index, 3)) (k : gW p l e R s m args below meth c Q D b0 nL (va_up h n (gO ci fs)) (n + 1) (cells + 1) (slots + N) (pc + 3) lv (.ref n :: rest)) : gW p l e R s m args below meth c Q D b0 nL h n cells slots pc lv rest := by
  intro H locs ls h1 h2 h3 h4
  have hKn := C.2.2.2.2.2.1.1.1 ci _ hc
  subst h1
  refine W.newcK C.1 C.2.1 C.2.2.2.1 (C.2.2.2.2.1 _ ql) (C.2.2.2.2.1 _ qi) (C.2.2.2.2.1 _ qn) rfl d hcells hslots hKn.2.1 rfl fun H1 kC hkC e1 z1 o1 => ?_
  exact k H1 locs ls z1 (h2.push rfl (e := .inl (.inr (ci, fs))) ⟨_, hc, (u_born ty C.2.2.2.2.1 hin hKn hkC e1 hty).to hfs⟩ o1) (h3.grow (by omega) o1) h4

theorem g_newi {N : Nat} (C : gC p s m args c own cc nL D b0) (hN : N < 2 ^ 24) (hcells : cells + 1 ≤ R.cells) (hslots : slots + N ≤ R.slots) (d : decode cc pc = .ok (.newarray .int, 2)) (k : gW p l e R s m args below meth c Q D b0 nL (va_up h n (gI D N (fun _ => 0))) (n + 1) (cells + 1) (slots + N) (pc + 2) lv (.ref n :: rest)) : gW p l e R s m args below meth c Q D b0 nL h n cells slots pc lv (.int (nI N) :: rest) := by
  intro H locs ls h1 h2 h3 h4
  subst h1
  refine va_newaK (N := N) C.1 C.2.1 (atype := .int) (C.2.2.2.2.1 _ q160) rfl d rfl (nI_pos (by omega)) (nI_clamp (by omega)) (by show N * 4 ≤ 536870912; omega) hcells hslots rfl fun H1 cA e1 z1 o1 hA hf => ?_
  have hcA : cA = D.1 100 := Option.some.inj (hf.symm.trans (C.2.2.2.2.2.1.1.2 0 _ rfl).2)
  subst hcA
  exact k H1 locs ls z1 (h2.push rfl (e := .inl (.inl (D.1 100, N, .inl (fun _ => 0)))) e1 o1) (h3.grow (by omega) o1) h4
theorem g_newb {N : Nat} (C : gC p s m args c own cc nL D b0) (hN : N < 2 ^ 24) (hcells : cells + 1 ≤ R.cells) (hslots : slots + N ≤ R.slots) (d : decode cc pc = .ok (.newarray .byte, 2)) (k : gW p l e R s m args below meth c Q D b0 nL (va_up h n (gB D N (fun _ => 0))) (n + 1) (cells + 1) (slots + N) (pc + 2) lv (.ref n :: rest)) : gW p l e R s m args below meth c Q D b0 nL h n cells slots pc lv (.int (nI N) :: rest) := by
  intro H locs ls h1 h2 h3 h4
  subst h1
  refine va_newaK (N := N) C.1 C.2.1 (atype := .byte) (C.2.2.2.2.1 _ q210) rfl d rfl (nI_pos (by omega)) (nI_clamp (by omega)) (by show N * 1 ≤ 536870912; omega) hcells hslots rfl fun H1 cA e1 z1 o1 hA hf => ?_
  have hcA : cA = D.1 101 := Option.some.inj (hf.symm.trans (C.2.2.2.2.2.1.1.2 1 _ rfl).2)
  subst hcA
  exact k H1 locs ls z1 (h2.push rfl (e := .inl (.inl (D.1 101, N, .inl (fun _ => 0)))) e1 o1) (h3.grow (by omega) o1) h4
theorem g_newO {N index : Nat} (C : gC p s m args c own cc nL D b0) (ql : Cond.classLink own index "java/lang/Object" ∈ lw_all) (hN : N < 2 ^ 24) (hcells : cells + 1 ≤ R.cells) (hslots : slots + N ≤ R.slots) (d : decode cc pc = .ok (.anewarray index, 3)) (k : gW p l e R s m args below meth c Q D b0 nL (va_up h n (gP D 102 N (fun _ => none))) (n + 1) (cells + 1) (slots + N) (pc + 3) lv (.ref n :: rest)) : gW p l e R s m args below meth c Q D b0 nL h n cells slots pc lv (.int (nI N) :: rest) := by
  intro H locs ls h1 h2 h3 h4
  subst h1
  have hc := nI_clamp (show N < 2 ^ 31 by omega)
  refine W.anew C.1 C.2.1 C.2.2.2.1 (C.2.2.2.2.1 _ ql) (va_AO.use C.2.2.2.2.2.1.2.2.1) rfl d rfl (nI_pos (by omega)) (by rw [hc]; omega) hcells (by rw [hc]; exact hslots) fun cA kA comp f1 f2 f3 f4 => ?_
  rw [hc]
  obtain ⟨kA', comp', r1, r2, r3, r4⟩ := (C.2.2.2.2.2.1.1.2 2 _ rfl).2
  have hcA : cA = D.1 102 := Option.some.inj (f1.symm.trans r4)
  subst hcA
  exact k _ locs ls (Array.size_push _) (h2.push rfl (e := .inl (.inl (D.1 102, N, .inr (.inr (.inr (.inr (fun _ => none))))))) (by rw [arrV_new]; exact push_at H _) (fun q hq => push_old H _ hq)) (h3.grow (by rw [Array.size_push]; omega) (fun q hq => push_old H _ hq)) h4
theorem g_newS {N index : Nat} (C : gC p s m args c own cc nL D b0) (ql : Cond.classLink own index "MapSheets$Sign" ∈ lw_all) (hN : N < 2 ^ 24) (hcells : cells + 1 ≤ R.cells) (hslots : slots + N ≤ R.slots) (d : decode cc pc = .ok (.anewarray index, 3)) (k : gW p l e R s m args below meth c Q D b0 nL (va_up h n (gP D 104 N (fun _ => none))) (n + 1) (cells + 1) (slots + N) (pc + 3) lv (.ref n :: rest)) : gW p l e R s m args below meth c Q D b0 nL h n cells slots pc lv (.int (nI N) :: rest) := by
  intro H locs ls h1 h2 h3 h4
  subst h1
  have hc := nI_clamp (show N < 2 ^ 31 by omega)
  refine W.anew C.1 C.2.1 C.2.2.2.1 (C.2.2.2.2.1 _ ql) (va_AO.use C.2.2.2.2.2.1.2.2.2.1) rfl d rfl (nI_pos (by omega)) (by rw [hc]; omega) hcells (by rw [hc]; exact hslots) fun cA kA comp f1 f2 f3 f4 => ?_
  rw [hc]
  obtain ⟨kA', comp', r1, r2, r3, r4⟩ := (C.2.2.2.2.2.1.1.2 4 _ rfl).2
  have hcA : cA = D.1 104 := Option.some.inj (f1.symm.trans r4)
  subst hcA
  exact k _ locs ls (Array.size_push _) (h2.push rfl (e := .inl (.inl (D.1 104, N, .inr (.inr (.inr (.inr (fun _ => none))))))) (by rw [arrV_new]; exact push_at H _) (fun q hq => push_old H _ hq)) (h3.grow (by rw [Array.size_push]; omega) (fun q hq => push_old H _ hq)) h4
theorem g_newA {N index : Nat} (C : gC p s m args c own cc nL D b0) (ql : Cond.classLink own index "[I" ∈ lw_all) (hN : N < 2 ^ 24) (hcells : cells + 1 ≤ R.cells) (hslots : slots + N ≤ R.slots) (d : decode cc pc = .ok (.anewarray index, 3)) (k : gW p l e R s m args below meth c Q D b0 nL (va_up h n (gP D 103 N (fun _ => none))) (n + 1) (cells + 1) (slots + N) (pc + 3) lv (.ref n :: rest)) : gW p l e R s m args below meth c Q D b0 nL h n cells slots pc lv (.int (nI N) :: rest) := by
  intro H locs ls h1 h2 h3 h4
  subst h1
  have hc := nI_clamp (show N < 2 ^ 31 by omega)
  refine W.anewA (t := .int) C.1 C.2.1 C.2.2.2.1 (C.2.2.2.2.1 _ ql) (gAI.use C.2.2.2.2.2.1.2.2.2.2.1) rfl d rfl (nI_pos (by omega)) (by rw [hc]; omega) hcells (by rw [hc]; exact hslots) fun cA kA comp f1 f2 f3 f4 => ?_
  rw [hc]
  have hcA : cA = D.1 103 := Option.some.inj (f1.symm.trans (C.2.2.2.2.2.1.1.2 3 _ rfl).2)
  subst hcA
  exact k _ locs ls (Array.size_push _) (h2.push rfl (e := .inl (.inl (D.1 103, N, .inr (.inr (.inr (.inr (fun _ => none))))))) (by rw [arrV_new]; exact push_at H _) (fun q hq => push_old H _ hq)) (h3.grow (by rw [Array.size_push]; omega) (fun q hq => push_old H _ hq)) h4
/-- reading a row of references -/
theorem g_aald {a n0 t0 k0 i : Nat} {ty : FieldType} {f : Nat → Option Nat} (C : gC p s m args c own cc nL D b0) (he : h a = gP D k0 n0 f) (ht : (gtys D)[t0]? = some (D.1 k0, ty)) (hr : ty.isReference = true) (hi : i < n0) (hn : n0 < 2 ^ 31) {v : Value} (hv : va_rf (f i) = v) (d : decode cc pc = .ok (.aaload, 1)) (k : gW p l e R s m args below meth c Q D b0 nL h n cells slots (pc + 1) lv (v :: rest)) : gW p l e R s m args below meth c Q D b0 nL h n cells slots pc lv (.int (nI i) :: .ref a :: rest) := by
  intro H locs ls h1 h2 h3 h4
  have hc := nI_clamp (show i < 2 ^ 31 by omega)
  subst hv
  exact W.aald (v := va_rf (f i)) (ty := ty) C.1 C.2.1 (h2 a _ he) ((C.2.2.2.2.2.1.1.2 t0 _ ht).1 n0 (fun j => va_rf (f j))) hr (fun q => by cases q) (by show ¬ (nI i < 0 ∨ (arrV _ _ _).slots.size ≤ _); rw [arrV_size]; exact vp_in_nI hi hn) (by show (arrV _ _ _).slots[_]? = _; rw [hc, arrV_read _ _ hi]) rfl rfl d (k H locs ls h1 h2 h3 h4)
/-- what may be stored in a row of references: an object, or a row of ints -/
def gIs (D : va_G) (s : State) (H : Heap) (v : Nat) (comp : ClassId) : Prop := ∃ cv : Cell, H[v]? = some cv ∧ cv.vm.isStatics = false ∧ (∃ kv : Class, s.vm.classes[cv.cls]? = some kv) ∧ s.vm.assignable cv.cls comp = true
theorem g_aastX {a v n0 k0 i : Nat} {comp : ClassId} {ty : FieldType} {f : Nat → Option Nat} (C : gC p s m args c own cc nL D b0) (he : h a = gP D k0 n0 f) (ha : b0 ≤ a) (hr : ty.isReference = true) (hk : ∃ (kA : Class) (kc : Class), s.vm.classes[D.1 k0]? = some kA ∧ kA.kind = .array comp ty ∧ s.vm.classes[comp]? = some kc) (hv : ∀ (H : Heap) (locs : List Loc), gR D h H → va_S (gA b0) s.heap H locs → gIs D s H v comp) (hi : i < n0) (hn : n0 < 2 ^ 31) (hh : va_up h a (gP D k0 n0 (va_up f i (some v))) = h') (d : decode cc pc = .ok (.aastore, 1)) (k : gW p l e R s m args below meth c Q D b0 nL h' n cells slots (pc + 1) lv rest) : gW p l e R s m args below meth c Q D b0 nL h n cells slots pc lv (.ref v :: .int (nI i) :: .ref a :: rest) := by
  intro H locs ls h1 h2 h3 h4
  have hc := nI_clamp (show i < 2 ^ 31 by omega)
  obtain ⟨kA, kc, k1, k2, k3⟩ := hk
  obtain ⟨cv, v1, v2, ⟨kv, v3⟩, v4⟩ := hv H locs h2 h3
  refine W.aast C.1 C.2.1 (h2 a _ he) (fun q h => by cases h) (fun h => by cases h) k1 k2 hr k3 ⟨nI_pos (by omega), by show _ < (arrV _ _ _).slots.size; rw [arrV_size, hc]; exact hi⟩ v1 (fun q h => by rw [h] at v2; cases v2) v3 v4 rfl rfl d fun H1 e z oq => ?_
  refine k H1 _ ls (z.trans h1) ?_ (h3.put z oq ha) h4
  rw [← hh]
  refine h2.put (e := .inl (.inl (D.1 k0, n0, .inr (.inr (.inr (.inr (va_up f i (some v)))))))) ?_ oq
  show H1[a]? = some (vp_cell _ _)
  rw [e]
  show some ((arrV _ _ _).setSlot _ _) = _
  rw [vp_cell_q, arrV_store, hc]
  congr 2
  funext q
  by_cases hq : q = i
  · subst hq; simp [updV, va_up, va_rf]
  · simp [updV, va_up, hq]
theorem g_aastN {a n0 t0 k0 i : Nat} {C0 : String} {f : Nat → Option Nat} (C : gC p s m args c own cc nL D b0) (he : h a = gP D k0 n0 f) (ha : b0 ≤ a) (ht : (gtys D)[t0]? = some (D.1 k0, .object C0)) (hi : i < n0) (hn : n0 < 2 ^ 31) (hh : va_up h a (gP D k0 n0 (va_up f i none)) = h') (d : decode cc pc = .ok (.aastore, 1)) (k : gW p l e R s m args below meth c Q D b0 nL h' n cells slots (pc + 1) lv rest) : gW p l e R s m args below meth c Q D b0 nL h n cells slots pc lv (.null :: .int (nI i) :: .ref a :: rest) := by
  intro H locs ls h1 h2 h3 h4
  have hc := nI_clamp (show i < 2 ^ 31 by omega)
  refine va_WaastN (C := C0) C.1 C.2.1 (h2 a _ he) ((C.2.2.2.2.2.1.1.2 t0 _ ht).1 n0 (fun j => va_rf (f j))) (fun h => by cases h) (by show ¬ (nI i < 0 ∨ (arrV _ _ _).slots.size ≤ _); rw [arrV_size]; exact vp_in_nI hi hn) rfl rfl d fun H1 e z oq => ?_
  refine k H1 _ ls (z.trans h1) ?_ (h3.put z oq ha) h4
  rw [← hh]
  refine h2.put (e := .inl (.inl (D.1 k0, n0, .inr (.inr (.inr (.inr (va_up f i none))))))) ?_ oq
  show H1[a]? = some (vp_cell _ _)
  rw [e]
  show some ((arrV _ _ _).setSlot _ _) = _
  rw [vp_cell_q, arrV_store, hc]
  congr 2
  funext q
  by_cases hq : q = i
  · subst hq; simp [updV, va_up, va_rf]
  · simp [updV, va_up, hq]
/-- an object of a described class into a row of Objects -/
theorem g_aastO {a v n0 i ci : Nat} {Cn : String} {T : u_T} {N : Nat} {fs : List Value} {f : Nat → Option Nat} (C : gC p s m args c own cc nL D b0) (he : h a = gP D 102 n0 f) (ha : b0 ≤ a) (hv : h v = gO ci fs) (hc : vwCl[ci]? = some (Cn, T, N)) (qc : Cond.castable Cn "java/lang/Object" ∈ lw_tbl) (hi : i < n0) (hn : n0 < 2 ^ 31) (hh : va_up h a (gP D 102 n0 (va_up f i (some v))) = h') (d : decode cc pc = .ok (.aastore, 1)) (k : gW p l e R s m args below meth c Q D b0 nL h' n cells slots (pc + 1) lv rest) : gW p l e R s m args below meth c Q D b0 nL h n cells slots pc lv (.ref v :: .int (nI i) :: .ref a :: rest) := by
  obtain ⟨kA, comp, r1, r2, r3, r4⟩ := (C.2.2.2.2.2.1.1.2 2 _ rfl).2
  obtain ⟨kc, hkc, -⟩ := Vm.findClass_spec r3
  refine g_aastX C he ha (ty := .object "java/lang/Object") rfl ⟨kA, kc, r1, r2, hkc⟩ (fun H locs hR hS => ?_) hi hn hh d k
  obtain ⟨cell, g1, g2, g3⟩ := g_recv C hR hv hc
  obtain ⟨c0, t0', f1, f2, f3⟩ := Cond.castable_spec (va_Nw.use (A := args) rfl (C.2.2.2.2.2.1.2.1 _ qc rfl))
  cases g3.symm.trans f1
  cases r3.symm.trans f2
  obtain ⟨kv, hkv, -⟩ := Vm.findClass_spec g3
  exact ⟨cell, g1, g2, ⟨kv, hkv⟩, f3⟩
/-- a row of ints into a row of such rows -/
theorem g_aastI {a v n0 n1 i : Nat} {f : Nat → Option Nat} {r : Nat → Int32} (C : gC p s m args c own cc nL D b0) (he : h a = gP D 103 n0 f) (ha : b0 ≤ a) (hv : h v = gI D n1 r) (hi : i < n0) (hn : n0 < 2 ^ 31) (hh : va_up h a (gP D 103 n0 (va_up f i (some v))) = h') (d : decode cc pc = .ok (.aastore, 1)) (k : gW p l e R s m args below meth c Q D b0 nL h' n cells slots (pc + 1) lv rest) : gW p l e R s m args below meth c Q D b0 nL h n cells slots pc lv (.ref v :: .int (nI i) :: .ref a :: rest) := by
  obtain ⟨-, kA, hkA, comp, hkind⟩ := (C.2.2.2.2.2.1.1.2 3 _ rfl).1 0 (fun _ => .null)
  obtain ⟨comp', c', k', a1, a2, a3, a4, a5⟩ := arrayOverA_spec C.2.2.2.2.2.1.2.2.2.2.1
  have e1 : c' = D.1 103 := Option.some.inj (a5.symm.trans (C.2.2.2.2.2.1.1.2 3 _ rfl).2)
  subst e1
  have e2 : comp' = D.1 100 := Option.some.inj (a1.symm.trans (C.2.2.2.2.2.1.1.2 0 _ rfl).2)
  subst e2
  obtain ⟨kc, hkc, -⟩ := Vm.findClass_spec a1
  refine g_aastX C he ha (ty := .array .int) rfl ⟨k', kc, a3, a4, hkc⟩ (fun H locs hR hS => ?_) hi hn hh d k
  exact ⟨_, hR v _ hv, rfl, ⟨kc, hkc⟩, va_asg _ _⟩
/-- a row of ints, cloned -/
theorem g_clone {a N index : Nat} {f : Nat → Int32} (C : gC p s m args c own cc nL D b0) (ql : Cond.methodLink own index ⟨"[I", "clone", "()Ljava/lang/Object;"⟩ ∈ lw_all) (he : h a = gI D N f) (hfr : 1 ≤ R.frames) (hlo : (rest.map fun v => v.category).sum + 14 ≤ R.locals) (hcells : cells + 1 ≤ R.cells) (hslots : slots + N ≤ R.slots) (d : decode cc pc = .ok (.invokevirtual index, 3)) (k : gW p l e R s m args below meth c Q D b0 nL (va_up h n (gI D N f)) (n + 1) (cells + 1) (slots + N) (pc + 3) lv (.ref n :: rest)) : gW p l e R s m args below meth c Q D b0 nL h n cells slots pc lv (.ref a :: rest) := by
  intro H locs ls h1 h2 h3 h4 T hT X
  subst h1
  have hcell : H[a]? = some (arrV (D.1 100) N (fun j => .int (f j))) := h2 a _ he
  have hnm : s.vm.findClass "[I" = some (D.1 100) := va_nm_int (C.2.2.2.2.2.1.1.2 0 _ rfl).2
  obtain ⟨c0, t0', f1, f2, f3⟩ := Cond.castable_spec (va_Nw.use (A := args) rfl (C.2.2.2.2.2.1.2.1 _ q369 rfl))
  cases hnm.symm.trans f1
  have hsz : (arrV (D.1 100) N (fun j => Value.int (f j))).slots.size = N := arrV_size _ _ _
  obtain ⟨-, kA, hkA, comp, hkind⟩ := State.isArrayOf_alike X.warmed.alike ((C.2.2.2.2.2.1.1.2 0 _ rfl).1 0 (fun _ => .null))
  obtain ⟨-, kS, hkS, compS, hkindS⟩ := (C.2.2.2.2.2.1.1.2 0 _ rfl).1 0 (fun _ => .null)
  obtain ⟨vm', X', st⟩ := X.cloneArray C.1 C.2.2.2.1 (C.2.2.2.2.1 _ ql) (C.2.2.2.2.1 _ q365) (C.2.2.2.2.1 _ q366) (C.2.2.2.2.1 _ q367) (C.2.2.2.2.1 _ q368) (a := a) (cell := arrV (D.1 100) N (fun j => .int (f j))) (by rw [hT]; exact hcell) (fun k h => by cases h) (fun h => by cases h) hnm f2 f3
    (fun i v hv => by
      have hk' : T.vm.classes[D.1 100]? = some kA := hkA
      have hf : fits .int v = true := va_fit (cA := D.1 100) (n := N) (F := fun j => .int (f j)) (ty := .int) (fun _ _ => rfl) i v hv
      show T.fitsSlot (D.1 100) .none i v = true
      simpa [State.fitsSlot, State.slotType?, hk', hkind] using hf)
    (g := F0 m pc ls (.ref a :: rest)) rfl (h4.1.trans C.2.2.1.symm) rfl (by rw [C.2.1]; exact d) hfr (by show 2 * 0 + _ + 14 ≤ _; omega) hcells (by rw [hsz]; exact hslots) (hloader := Vm.clonesLoader_of_array hkS hkindS)
  rw [hsz] at X'
  obtain ⟨t, b1, b2⟩ := k (H.push (arrV (D.1 100) N (fun j => .int (f j)))) locs ls (Array.size_push _) (h2.push rfl (e := .inl (.inl (D.1 100, N, .inl f))) (push_at H _) (fun q hq => push_old H _ hq)) (h3.grow (by rw [Array.size_push]; omega) (fun q hq => push_old H _ hq)) h4 ((T.setVm vm').pushCell (arrV (D.1 100) N (fun j => .int (f j)))) (by rw [← hT]; rfl) X'
  refine ⟨t, st t ?_, b2⟩
  rw [hT]
  exact b1
/-- checkcast of an object of just that class, of a described array -/
theorem g_castS {a ci index : Nat} {fs : List Value} {Cn : String} {T : u_T} {N : Nat} (C : gC p s m args c own cc nL D b0) (ql : Cond.classLink own index Cn ∈ lw_all) (he : h a = gO ci fs) (hc : vwCl[ci]? = some (Cn, T, N)) (d : decode cc pc = .ok (.checkcast index, 3)) (k : gW p l e R s m args below meth c Q D b0 nL h n cells slots (pc + 3) lv (.ref a :: rest)) : gW p l e R s m args below meth c Q D b0 nL h n cells slots pc lv (.ref a :: rest) :=
  fun H locs ls h1 h2 h3 h4 => va_castS C.1 C.2.1 C.2.2.2.1 (C.2.2.2.2.1 _ ql) (C.2.2.2.2.2.1.1.1 ci _ hc).2 (g_recv C h2 he hc) d (k H locs ls h1 h2 h3 h4)
theorem g_castY {a ci index : Nat} {fs : List Value} {Cn nm : String} {T : u_T} {N : Nat} (C : gC p s m args c own cc nL D b0) (ql : Cond.classLink own index nm ∈ lw_all) (qc : Cond.castable Cn nm ∈ lw_tbl) (he : h a = gO ci fs) (hc : vwCl[ci]? = some (Cn, T, N)) (d : decode cc pc = .ok (.checkcast index, 3)) (k : gW p l e R s m args below meth c Q D b0 nL h n cells slots (pc + 3) lv (.ref a :: rest)) : gW p l e R s m args below meth c Q D b0 nL h n cells slots pc lv (.ref a :: rest) :=
  fun H locs ls h1 h2 h3 h4 => va_castY C.1 C.2.1 C.2.2.2.1 (C.2.2.2.2.1 _ ql) (C.2.2.2.2.2.1.2.1 _ qc rfl) (g_recv C h2 he hc) d (k H locs ls h1 h2 h3 h4)
theorem g_castI {a N index : Nat} {f : Nat → Int32} (C : gC p s m args c own cc nL D b0) (ql : Cond.classLink own index "[I" ∈ lw_all) (he : h a = gI D N f) (d : decode cc pc = .ok (.checkcast index, 3)) (k : gW p l e R s m args below meth c Q D b0 nL h n cells slots (pc + 3) lv (.ref a :: rest)) : gW p l e R s m args below meth c Q D b0 nL h n cells slots pc lv (.ref a :: rest) :=
  fun H locs ls h1 h2 h3 h4 => va_castA C.1 C.2.1 C.2.2.2.1 (C.2.2.2.2.1 _ ql) (h2.one he) 0 rfl (va_nm_int (C.2.2.2.2.2.1.1.2 0 _ rfl).2) d (k H locs ls h1 h2 h3 h4)
theorem g_acmp_eq {rx ry : Option Nat} {off : Int} {tgt : Nat} (C : gC p s m args c own cc nL D b0) (d : decode cc pc = .ok (.if_acmp .eq off, 3)) (ht : (pc : Int) + off = (tgt : Int)) (kt : rx = ry → gW p l e R s m args below meth c Q D b0 nL h n cells slots tgt lv rest) (kf : ¬ rx = ry → gW p l e R s m args below meth c Q D b0 nL h n cells slots (pc + 3) lv rest) : gW p l e R s m args below meth c Q D b0 nL h n cells slots pc lv (va_rf ry :: va_rf rx :: rest) :=
  fun H locs ls h1 h2 h3 h4 => lv_acmp_eq C.1 C.2.1 d ht (fun z => kt z H locs ls h1 h2 h3 h4) (fun z => kf z H locs ls h1 h2 h3 h4)
theorem g_acmp_ne {rx ry : Option Nat} {off : Int} {tgt : Nat} (C : gC p s m args c own cc nL D b0) (d : decode cc pc = .ok (.if_acmp .ne off, 3)) (ht : (pc : Int) + off = (tgt : Int)) (kt : ¬ rx = ry → gW p l e R s m args below meth c Q D b0 nL h n cells slots tgt lv rest) (kf : rx = ry → gW p l e R s m args below meth c Q D b0 nL h n cells slots (pc + 3) lv rest) : gW p l e R s m args below meth c Q D b0 nL h n cells slots pc lv (va_rf ry :: va_rf rx :: rest) :=
  fun H locs ls h1 h2 h3 h4 => lv_acmp_ne C.1 C.2.1 d ht (fun z => kt z H locs ls h1 h2 h3 h4) (fun z => kf z H locs ls h1 h2 h3 h4)
/-- a static's value -/
theorem g_gets {Cs nn dd ref : String} {v : Value} {index : Nat} (C : gC p s m args c own cc nL D b0) (hZ : va_Z Cs nn dd v (gA b0) s s.heap) (q : Cond.fieldLink own index ref nn dd ∈ lw_all) (hsame : ∀ x, s.fieldFound? Cs nn dd = some x → s.fieldFound? ref nn dd = some x) (d : decode cc pc = .ok (.getstatic index, 3)) (k : gW p l e R s m args below meth c Q D b0 nL h n cells slots (pc + 3) lv (v :: rest)) : gW p l e R s m args below meth c Q D b0 nL h n cells slots pc lv rest :=
  fun H locs ls h1 h2 h3 h4 => va_gets C.1 C.2.1 hZ h3 C.2.2.2.1 (C.2.2.2.2.1 _ q) hsame d (k H locs ls h1 h2 h3 h4)
/-- the Class object of the rows of Objects -/
theorem g_ldcM {index : Nat} (C : gC p s m args c own cc nL D b0) (ql : Cond.classLink own index "[Ljava/lang/Object;" ∈ lw_all) (d : decode cc pc = .ok (.ldc index, 2)) (k : gW p l e R s m args below meth c Q D b0 nL h n cells slots (pc + 2) lv (.ref (D.1 200) :: rest)) : gW p l e R s m args below meth c Q D b0 nL h n cells slots pc lv rest :=
  fun H locs ls h1 h2 h3 h4 => va_ldcM C.1 C.2.1 C.2.2.2.1 (C.2.2.2.2.1 _ ql) C.2.2.2.2.2.1.2.2.2.2.2.2.2.1 d (k H locs ls h1 h2 h3 h4)
theorem g_getC {a N index : Nat} {f : Nat → Option Nat} (C : gC p s m args c own cc nL D b0) (ql : Cond.methodLink own index ⟨"java/lang/Object", "getClass", "()Ljava/lang/Class;"⟩ ∈ lw_all) (he : h a = gP D 102 N f) (hfr : 1 ≤ R.frames) (hlo : (rest.map fun v => v.category).sum + 14 ≤ R.locals) (d : decode cc pc = .ok (.invokevirtual index, 3)) (k : gW p l e R s m args below meth c Q D b0 nL h n cells slots (pc + 3) lv (.ref (D.1 200) :: rest)) : gW p l e R s m args below meth c Q D b0 nL h n cells slots pc lv (.ref a :: rest) :=
  fun H locs ls h1 h2 h3 h4 => va_getC (C := "[Ljava/lang/Object;") C.1 C.2.1 (C.2.2.1.trans h4.1.symm) C.2.2.2.1 (C.2.2.2.2.1 _ ql) (va_Nw.use rfl (C.2.2.2.2.2.1.2.1 _ q1490 rfl)) (C.2.2.2.2.1 _ q1489) (C.2.2.2.2.1 _ q286) (C.2.2.2.2.1 _ q302) C.2.2.2.2.2.1.2.2.2.2.2.2.2.1 ⟨_, h2 a _ he, rfl, va_nmO (C.2.2.2.2.2.1.1.2 2 _ rfl).2 (by decide +kernel)⟩ hfr hlo d (k H locs ls h1 h2 h3 h4)
end GROWS2
