theorem va_S.puts {A : Nat → Prop} {H0 H H1 : Heap} {locs L : List Loc} {a : Nat} (h : va_S A H0 H locs) (z : H1.size = H.size) (oq : ∀ q : Nat, q ≠ a → H1[q]? = H[q]?) (ha : A a) (hL : ∀ x ∈ L, x.base = a) : va_S A H0 H1 (locs ++ L) :=
  ⟨by rw [z]; exact h.1, fun q g1 g2 => by
    rw [oq q (fun e => g2 (by rw [e]; exact ha))]
    exact h.2.1 q g1 g2, fun q hq => by
    rcases List.mem_append.mp hq with g | g
    · exact h.2.2 q g
    · rw [hL q g]; exact ha⟩
/-- an object that may lie in a row of Objects -/
def gObj (h : GH) (v : Nat) : Prop := ∃ (ci : Nat) (fs : List Value) (Cn : String) (T : u_T) (N : Nat), h v = gO ci fs ∧ vwCl[ci]? = some (Cn, T, N) ∧ Cond.castable Cn "java/lang/Object" ∈ lw_tbl
theorem gObj.kept {h h' : GH} {v : Nat} (hv : gObj h v) (hq : h' v = h v) : gObj h' v := by
  obtain ⟨ci, fs, Cn, T, N, e, r⟩ := hv
  exact ⟨ci, fs, Cn, T, N, hq.trans e, r⟩
/-- one object's fields are written, another cell is made: objects stay objects -/
theorem gObj.upd {h h' : GH} {v a n ci : Nat} {fs fs' : List Value} (hv : gObj h v) (e : h' a = gO ci fs') (o : ∀ q, q ≠ a → q ≠ n → h' q = h q) (hn : v ≠ n) (ea : h a = gO ci fs) : gObj h' v := by
  by_cases hva : v = a
  · obtain ⟨ci1, fs1, Cn, T, N, e1, r⟩ := hv
    rw [hva, ea] at e1
    cases e1
    exact ⟨ci, fs', Cn, T, N, by rw [hva]; exact e, r⟩
  · exact hv.kept (o v hva hn)
theorem gObj.of {h : GH} {v ci : Nat} {fs : List Value} {Cn : String} {T : u_T} {N : Nat} (e : h v = gO ci fs) (hc : vwCl[ci]? = some (Cn, T, N)) (q : Cond.castable Cn "java/lang/Object" ∈ lw_tbl) : gObj h v := ⟨ci, fs, Cn, T, N, e, hc, q⟩
theorem gObj.ne {h : GH} {v m : Nat} (hv : gObj h v) (hm : h m = none) : v ≠ m := by
  obtain ⟨ci, fs, Cn, T, N, e, r⟩ := hv
  intro e2
  rw [e2, hm] at e
  cases e
theorem va_uu {α : Type} (f : Nat → α) (k : Nat) (v w : α) : va_up (va_up f k v) k w = va_up f k w := by
  funext j
  by_cases hj : j = k <;> simp [va_up, hj]
theorem nfw : nativeFrameWords "java/lang/System" "arraycopy" 5 + 11 ≤ 30 := by decide
theorem Met.ofWF {l : Launch} {y : MethodName} {ws ws' : List Cond} {rm : Room} {Pc : Array Value → State → Prop} {Qc : Array Value → State → Outcome → State → Prop} {mc ms : Nat} {free : Addr → Prop} {cc : ByteArray} {maxL : Nat} {ret : Option FieldType}
    (hy : plainFor y = true) (hw : ws = Cond.code y cc maxL ret :: ws')
    (body : ∀ p e s m args below meth c s₁, BodyLoose p l y (headSpec ws rm) cc maxL ret e s m args below meth c s₁ → c.maxLocals = maxL → Pc args s →
      W p l e (headSpec ws rm).room s m args below meth c s.heap [] 0 0 (MQ below Qc args s mc ms free) (entryFrame m args maxL)) : Met l y ws rm Pc Qc mc ms free := by
  refine MetFree.of_bodySF (code := cc) (maxLocals := maxL) (ret := ret) hy ?_ ?_
  · intro args s m h hn
    obtain ⟨meth, c, h1, h2, h3, h4, h5, h6, -, -⟩ := Cond.code_spec hn (atoms_spec (ws := ws) h _ (by rw [hw]; exact List.mem_cons_self))
    exact ⟨meth, c, h1, h2, h3, h4, h5, h6⟩
  · intro p e s m args below meth c s₁ B hml hP _
    have hh0 : s₁.heap = s.heap := by rw [B.state]; rfl
    obtain ⟨t, a1, o, b1, b2, b3⟩ := body p e s m args below meth c s₁ B hml hP s₁ hh0 (Stand.of_body B)
    exact ⟨t, o, a1, b1, b2, ⟨b3.1, b3.2⟩⟩
theorem gMet.ofF {l : Launch} {D : va_G} {b0 nL : Nat} {h : GH} {n : Nat} {cc : ByteArray} {lv : List (Nat × Value)} {y : MethodName} {ret : Option FieldType} {fr lo mc ms : Nat} {av : List Value} {post : Option Value → GH → Nat → Prop} (hy : plainFor y = true) (hav : (lg_sl av).length ≤ nL) (hlv : lv_args 0 av = lv)
    (body : ∀ (p : Program) (e : Env) (s : State) (m : MethodId) (args : Array Value) (below : List Frame) (meth : Method) (c : Code), gC p s m args c y.cls cc nL D b0 → meth.sig.returnType = ret → meth.locks = false → meth.name = y.name →
      gW p l e (headSpec (ws_ y cc nL ret) (gRm fr lo mc ms)).room s m args below meth c (MQ below (gQc D b0 post) args s mc ms (gA b0)) D b0 nL h n 0 0 0 lv []) : gMet l y cc nL ret fr lo mc ms D b0 h n av post := by
  refine Met.ofWF (cc := cc) (maxL := nL) (ret := ret) hy rfl ?_
  intro p e s m args below meth c s₁ B hml hv
  obtain ⟨rfl, hsz, hR, hK, hb0, hZ⟩ := hv
  have hts := atoms_spec (ws := ws_ y cc nL ret) B.pre
  have hts : ∀ w ∈ lw_all, w.before _ s = true := fun w h => hts w (List.mem_cons_of_mem _ h)
  have hown : s.vm.findClass y.cls = some m.cls := findClass_of_methodNamed B.named
  have hl := lv_entry av (n := nL) hav
  rw [lg_entry_eq]
  rw [hlv] at hl
  exact body p e s m av.toArray below meth c ⟨B.exec, B.bytes, hml, hown, hts, hK, by rw [hsz]; exact hb0, hZ⟩ B.returns B.notSynchronized (name_of_methodNamed B.named B.method).1 s.heap [] _ hsz hR va_S.rf hl
section GROWS4
variable {p : Program} {l : Launch} {e : Env} {R : Room} {s : State} {m : MethodId} {args : Array Value} {below : List Frame} {meth : Method} {c : Code} {Q : State → Prop} {D : va_G} {b0 nL : Nat} {h h' : GH} {n cells slots pc : Nat} {lv lv' : List (Nat × Value)} {rest : List Value} {cc : ByteArray} {own : String}
/-- what was written is known; what else the heap holds, it held -/
theorem g_opq {a : Nat} {x : Option gE} {st : List Value} (k : ∀ h1 : GH, h1 a = x → (∀ q, q ≠ a → h1 q = h q) → gW p l e R s m args below meth c Q D b0 nL h1 n cells slots pc lv st) : gW p l e R s m args below meth c Q D b0 nL (va_up h a x) n cells slots pc lv st :=
  k _ (va_up_self _ _ _) (fun _ hq => va_up_ne _ _ hq)
/-- a new cell: it lies where nothing was known -/
theorem g_none {st : List Value} (k : (∀ a, n ≤ a → h a = none) → gW p l e R s m args below meth c Q D b0 nL h n cells slots pc lv st) : gW p l e R s m args below meth c Q D b0 nL h n cells slots pc lv st :=
  fun H locs ls h1 h2 h3 h4 => k (fun a ha => by
    cases hx : h a with
    | none => rfl
    | some x => exact absurd (h2.lt hx) (by omega)) H locs ls h1 h2 h3 h4
theorem g_copyO {a0 a n0 n1 sp dp N index : Nat} {f g : Nat → Option Nat} (C : gC p s m args c own cc nL D b0) (ql : Cond.methodLink own index arraycopyName ∈ lw_all) (he0 : h a0 = gP D 102 n0 f) (he : h a = gP D 102 n1 g) (ha : b0 ≤ a) (hs : sp + N ≤ n0) (hd : dp + N ≤ n1) (hn0 : n0 < 2 ^ 31) (hn1 : n1 < 2 ^ 31) (hel : ∀ i, i < N → ∀ v, f (sp + i) = some v → gObj h v) (hh : va_up h a (gP D 102 n1 (va_cpy f g sp dp N)) = h') (hfr : 1 ≤ R.frames) (hlo : (rest.map fun v => v.category).sum + 30 ≤ R.locals) (d : decode cc pc = .ok (.invokestatic index, 3)) (k : gW p l e R s m args below meth c Q D b0 nL h' n cells slots (pc + 3) lv rest) : gW p l e R s m args below meth c Q D b0 nL h n cells slots pc lv (.int (nI N) :: .int (nI dp) :: .ref a :: .int (nI sp) :: .ref a0 :: rest) := by
  intro H locs ls h1 h2 h3 h4 T hT X
  have cs := nI_clamp (show sp < 2 ^ 31 by omega)
  have cd := nI_clamp (show dp < 2 ^ 31 by omega)
  have cn := nI_clamp (show N < 2 ^ 31 by omega)
  have hc0 : H[a0]? = some (vp_cell (D.1 102) (n0, .inr (.inr (.inr (.inr f))))) := h2 a0 _ he0
  have hc1 : H[a]? = some (vp_cell (D.1 102) (n1, .inr (.inr (.inr (.inr g))))) := h2 a _ he
  have nn : ∀ z : Int32, ¬ z < 0 → z.toInt = (z.toNatClampNeg : Int) := by
    intro z hz
    have hz0 : (0 : Int) ≤ z.toInt := by
      have := Int32.not_lt.mp hz
      simpa using Int32.le_iff_toInt_le.mp this
    show z.toInt = ((z.toInt.toNat : Nat) : Int)
    omega
  have p1 : ¬ nI sp < 0 := nI_pos (by omega)
  have p2 : ¬ nI dp < 0 := nI_pos (by omega)
  have p3 : ¬ nI N < 0 := nI_pos (by omega)
  obtain ⟨-, k0, hk0, cm0, hkk0⟩ := (C.2.2.2.2.2.1.1.2 2 _ rfl).1 n0 (fun j => va_rf (f j))
  obtain ⟨-, k1, hk1, cm1, hkk1⟩ := (C.2.2.2.2.2.1.1.2 2 _ rfl).1 n1 (fun j => va_rf (g j))
  obtain ⟨vm', X', step⟩ := X.arraycopy C.1 C.2.2.2.1 (C.2.2.2.2.1 _ ql) (C.2.2.2.2.1 _ q313) (C.2.2.2.2.1 _ q312) (C.2.2.2.2.1 _ q77) (src := a0) (dst := a) (cs := vp_cell (D.1 102) (n0, .inr (.inr (.inr (.inr f))))) (cd := vp_cell (D.1 102) (n1, .inr (.inr (.inr (.inr g))))) (srcPos := nI sp) (destPos := nI dp) (n := nI N) (by rw [hT]; exact hc0) (by rw [hT]; exact hc1)
    (fun _ h => by cases h) (fun _ h => by cases h) (fun h => by cases h) (fun h => by cases h) hk0 hk1 hkk0 hkk1 rfl p1 p2 p3
    (by rw [nn _ p1, nn _ p3, cs, cn]; show ¬ _ > ((arrV (D.1 102) n0 (fun j => va_rf (f j))).slots.size : Int); rw [arrV_size]; omega)
    (by rw [nn _ p2, nn _ p3, cd, cn]; show ¬ _ > ((arrV (D.1 102) n1 (fun j => va_rf (g j))).slots.size : Int); rw [arrV_size]; omega)
    (fun vm₁ hal i hi => by
      rw [cn] at hi
      have e : (vp_cell (D.1 102) (n0, .inr (.inr (.inr (.inr f))))).slots.getD ((nI sp).toNatClampNeg + i) .null = (fun j => va_rf (f j)) (sp + i) := by
        rw [cs]
        show (arrV (D.1 102) n0 (fun j => va_rf (f j))).slots.getD _ _ = _
        rw [Array.getD_eq_getD_getElem?, arrV_read _ _ (by omega)]
        rfl
      rw [e]
      show fits _ (va_rf (f (sp + i))) = true ∧ State.takes _ _ (va_rf (f (sp + i)))
      cases hy : f (sp + i) with
      | none => exact ⟨rfl, trivial⟩
      | some y =>
        obtain ⟨ci, fs, Cn, T0, N0, o1, o2, o3⟩ := hel i hi y hy
        obtain ⟨cellV, g1, g2, g3⟩ := g_recv C h2 o1 o2
        obtain ⟨kA, comp, r1, r2, r3, -⟩ := (C.2.2.2.2.2.1.1.2 2 _ rfl).2
        cases hk1.symm.trans r1
        cases hkk1.symm.trans r2
        obtain ⟨kC, hkC, -⟩ := Vm.findClass_spec g3
        obtain ⟨kE, hkE, -⟩ := Vm.findClass_spec r3
        obtain ⟨kC', hkC', -⟩ := hal.2.2 _ _ hkC
        obtain ⟨kE', hkE', -⟩ := hal.2.2 _ _ hkE
        obtain ⟨c9, t9, f1, f2, f3⟩ := Cond.castable_spec (va_Nw.use (A := args) rfl (C.2.2.2.2.2.1.2.1 _ o3 rfl))
        cases g3.symm.trans f1
        cases r3.symm.trans f2
        refine ⟨rfl, cellV, (show T.heap[y]? = some cellV by rw [hT]; exact g1), (fun q h => by rw [h] at g2; cases g2), ⟨kC', hkC'⟩, ⟨kE', hkE'⟩, ?_⟩
        show vm₁.assignable _ _ = true
        rw [hal.assignable]
        exact f3)
    (g := F0 m pc ls (.int (nI N) :: .int (nI dp) :: .ref a :: .int (nI sp) :: .ref a0 :: rest)) rfl (h4.1.trans C.2.2.1.symm) (rest := rest) rfl (by rw [C.2.1]; exact d) hfr (by show 2 * 0 + _ + _ ≤ _; have hq := nfw; omega)
  have e1 : copied (vp_cell (D.1 102) (n0, .inr (.inr (.inr (.inr f))))) (vp_cell (D.1 102) (n1, .inr (.inr (.inr (.inr g))))) (nI sp) (nI dp) (nI N) = vp_cell (D.1 102) (n1, .inr (.inr (.inr (.inr (va_cpy f g sp dp N))))) := by
    rw [vp_cell_q, vp_cell_q, vp_cell_q]
    have := va_copied (fun z => va_rf z) (D.1 102) (D.1 102) (n0 := n0) (n1 := n1) (sp := sp) (dp := dp) (n := N) f g hs
    unfold copied
    rw [cs, cd, cn]
    exact this
  rw [e1] at X' step
  have hl : a < H.size := (Array.getElem?_eq_some_iff.mp hc1).1
  have hheap : ((T.setVm vm').setCell a (vp_cell (D.1 102) (n1, .inr (.inr (.inr (.inr (va_cpy f g sp dp N))))))).heap = H.setIfInBounds a (vp_cell (D.1 102) (n1, .inr (.inr (.inr (.inr (va_cpy f g sp dp N)))))) := by rw [← hT]; rfl
  have oq : ∀ q : Nat, q ≠ a → (H.setIfInBounds a (vp_cell (D.1 102) (n1, .inr (.inr (.inr (.inr (va_cpy f g sp dp N)))))))[q]? = H[q]? := fun q hq => by simp [Array.getElem?_setIfInBounds, Ne.symm hq]
  have hz : (H.setIfInBounds a (vp_cell (D.1 102) (n1, .inr (.inr (.inr (.inr (va_cpy f g sp dp N))))))).size = H.size := by simp
  obtain ⟨t, b1, b2⟩ := k _ _ ls (hz.trans h1) (by
      rw [← hh]
      exact h2.put (e := .inl (.inl (D.1 102, n1, .inr (.inr (.inr (.inr (va_cpy f g sp dp N))))))) (show (H.setIfInBounds a _)[a]? = some _ by simp [Array.getElem?_setIfInBounds, hl]) oq) (h3.puts hz oq ha (fun x hx => by obtain ⟨z, -, hz⟩ := List.mem_map.mp hx; rw [← hz])) h4 _ hheap X'
  exact ⟨t, step t b1, b2⟩
theorem g_copyB {a0 a n0 n1 sp dp N index : Nat} {f g : Nat → Int32} (C : gC p s m args c own cc nL D b0) (ql : Cond.methodLink own index arraycopyName ∈ lw_all) (he0 : h a0 = gB D n0 f) (he : h a = gB D n1 g) (ha : b0 ≤ a) (hs : sp + N ≤ n0) (hd : dp + N ≤ n1) (hn0 : n0 < 2 ^ 31) (hn1 : n1 < 2 ^ 31) (hel : ∀ i, i < N → fits .byte (.int (f (sp + i))) = true) (hh : va_up h a (gB D n1 (va_cpy f g sp dp N)) = h') (hfr : 1 ≤ R.frames) (hlo : (rest.map fun v => v.category).sum + 30 ≤ R.locals) (d : decode cc pc = .ok (.invokestatic index, 3)) (k : gW p l e R s m args below meth c Q D b0 nL h' n cells slots (pc + 3) lv rest) : gW p l e R s m args below meth c Q D b0 nL h n cells slots pc lv (.int (nI N) :: .int (nI dp) :: .ref a :: .int (nI sp) :: .ref a0 :: rest) := by
  intro H locs ls h1 h2 h3 h4 T hT X
  have cs := nI_clamp (show sp < 2 ^ 31 by omega)
  have cd := nI_clamp (show dp < 2 ^ 31 by omega)
  have cn := nI_clamp (show N < 2 ^ 31 by omega)
  have hc0 : H[a0]? = some (vp_cell (D.1 101) (n0, .inl f)) := h2 a0 _ he0
  have hc1 : H[a]? = some (vp_cell (D.1 101) (n1, .inl g)) := h2 a _ he
  have nn : ∀ z : Int32, ¬ z < 0 → z.toInt = (z.toNatClampNeg : Int) := by
    intro z hz
    have hz0 : (0 : Int) ≤ z.toInt := by
      have := Int32.not_lt.mp hz
      simpa using Int32.le_iff_toInt_le.mp this
    show z.toInt = ((z.toInt.toNat : Nat) : Int)
    omega
  have p1 : ¬ nI sp < 0 := nI_pos (by omega)
  have p2 : ¬ nI dp < 0 := nI_pos (by omega)
  have p3 : ¬ nI N < 0 := nI_pos (by omega)
  obtain ⟨-, k0, hk0, cm0, hkk0⟩ := (C.2.2.2.2.2.1.1.2 1 _ rfl).1 n0 (fun j => .int (f j))
  obtain ⟨-, k1, hk1, cm1, hkk1⟩ := (C.2.2.2.2.2.1.1.2 1 _ rfl).1 n1 (fun j => .int (g j))
  obtain ⟨vm', X', step⟩ := X.arraycopy C.1 C.2.2.2.1 (C.2.2.2.2.1 _ ql) (C.2.2.2.2.1 _ q313) (C.2.2.2.2.1 _ q312) (C.2.2.2.2.1 _ q77) (src := a0) (dst := a) (cs := vp_cell (D.1 101) (n0, .inl f)) (cd := vp_cell (D.1 101) (n1, .inl g)) (srcPos := nI sp) (destPos := nI dp) (n := nI N) (by rw [hT]; exact hc0) (by rw [hT]; exact hc1)
    (fun _ h => by cases h) (fun _ h => by cases h) (fun h => by cases h) (fun h => by cases h) hk0 hk1 hkk0 hkk1 rfl p1 p2 p3
    (by rw [nn _ p1, nn _ p3, cs, cn]; show ¬ _ > ((arrV (D.1 101) n0 (fun j => .int (f j))).slots.size : Int); rw [arrV_size]; omega)
    (by rw [nn _ p2, nn _ p3, cd, cn]; show ¬ _ > ((arrV (D.1 101) n1 (fun j => .int (g j))).slots.size : Int); rw [arrV_size]; omega)
    (fun vm₁ hal i hi => by
      rw [cn] at hi
      have e : (vp_cell (D.1 101) (n0, .inl f)).slots.getD ((nI sp).toNatClampNeg + i) .null = (fun j => .int (f j)) (sp + i) := by
        rw [cs]
        show (arrV (D.1 101) n0 (fun j => .int (f j))).slots.getD _ _ = _
        rw [Array.getD_eq_getD_getElem?, arrV_read _ _ (by omega)]
        rfl
      rw [e]
      exact ⟨hel i hi, trivial⟩)
    (g := F0 m pc ls (.int (nI N) :: .int (nI dp) :: .ref a :: .int (nI sp) :: .ref a0 :: rest)) rfl (h4.1.trans C.2.2.1.symm) (rest := rest) rfl (by rw [C.2.1]; exact d) hfr (by show 2 * 0 + _ + _ ≤ _; have hq := nfw; omega)
  have e1 : copied (vp_cell (D.1 101) (n0, .inl f)) (vp_cell (D.1 101) (n1, .inl g)) (nI sp) (nI dp) (nI N) = vp_cell (D.1 101) (n1, .inl (va_cpy f g sp dp N)) := by
    have := va_copied (fun z => .int z) (D.1 101) (D.1 101) (n0 := n0) (n1 := n1) (sp := sp) (dp := dp) (n := N) f g hs
    unfold copied
    rw [cs, cd, cn]
    exact this
  rw [e1] at X' step
  have hl : a < H.size := (Array.getElem?_eq_some_iff.mp hc1).1
  have hheap : ((T.setVm vm').setCell a (vp_cell (D.1 101) (n1, .inl (va_cpy f g sp dp N)))).heap = H.setIfInBounds a (vp_cell (D.1 101) (n1, .inl (va_cpy f g sp dp N))) := by rw [← hT]; rfl
  have oq : ∀ q : Nat, q ≠ a → (H.setIfInBounds a (vp_cell (D.1 101) (n1, .inl (va_cpy f g sp dp N))))[q]? = H[q]? := fun q hq => by simp [Array.getElem?_setIfInBounds, Ne.symm hq]
  have hz : (H.setIfInBounds a (vp_cell (D.1 101) (n1, .inl (va_cpy f g sp dp N)))).size = H.size := by simp
  obtain ⟨t, b1, b2⟩ := k _ _ ls (hz.trans h1) (by
      rw [← hh]
      exact h2.put (e := .inl (.inl (D.1 101, n1, .inl (va_cpy f g sp dp N)))) (show (H.setIfInBounds a _)[a]? = some _ by simp [Array.getElem?_setIfInBounds, hl]) oq) (h3.puts hz oq ha (fun x hx => by obtain ⟨z, -, hz⟩ := List.mem_map.mp hx; rw [← hz])) h4 _ hheap X'
  exact ⟨t, step t b1, b2⟩
end GROWS4
