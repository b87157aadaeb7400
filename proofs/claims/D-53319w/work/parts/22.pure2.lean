/-! What the reference's public methods answer and do: the answer, and the new state where the old one is recorded. -/
theorem in0_eq {x : Int32} {m : Nat} (hm : m < 2 ^ 31 - 1) : decide (nI 0 ≤ x ∧ x ≤ nI m) = isIn x (m + 1) := by
  unfold isIn
  refine decide_eq_decide.mpr ?_
  rw [Int32.le_iff_toInt_le, Int32.le_iff_toInt_le, nI_toInt (n := 0) (by omega), nI_toInt (n := m) (by omega)]
  omega
/-- 1 .. m -/
def isIn1 (x : Int32) (m : Nat) : Bool := decide (1 ≤ x.toInt ∧ x.toInt ≤ m)
theorem in1_eq {x : Int32} {m : Nat} (hm : m < 2 ^ 31) : decide (nI 1 ≤ x ∧ x ≤ nI m) = isIn1 x m := by
  unfold isIn1
  refine decide_eq_decide.mpr ?_
  rw [Int32.le_iff_toInt_le, Int32.le_iff_toInt_le, nI_toInt (n := 1) (by omega), nI_toInt (n := m) (by omega)]
  omega
theorem isIn1_ex {x : Int32} {m : Nat} (h : isIn1 x m = true) : ∃ k : Nat, 1 ≤ k ∧ k ≤ m ∧ x = nI k := by
  have h := of_decide_eq_true h
  have h0 : ¬ x < 0 := by rw [Int32.lt_iff_toInt_lt, Int32.toInt_zero]; omega
  obtain ⟨j, hj, rfl⟩ := nI_of h0
  rw [nI_toInt hj] at h
  exact ⟨j, by omega, by omega, rfl⟩
theorem isIn1_nI {k m : Nat} (hk : k < 2 ^ 31) : isIn1 (nI k) m = decide (1 ≤ k ∧ k ≤ m) := by
  unfold isIn1
  rw [nI_toInt hk]
  by_cases h : 1 ≤ k ∧ k ≤ m
  · rw [decide_eq_true h]; exact decide_eq_true (by omega)
  · rw [decide_eq_false h]; exact decide_eq_false (by omega)
abbrev rev (s : Nat → Int32) (k : Nat) : Nat → Int32 := upd s (ix k 50) (s (ix k 50) + 1)
/-- the number behind an int -/
abbrev tn (x : Int32) : Nat := x.toNatClampNeg
theorem tn_nI {k : Nat} (h : k < 2 ^ 31) : tn (nI k) = k := nI_clamp h
abbrev SP : Type := Int32 × Option (Nat → Int32)
def sp_keep (s1 : Nat → Int32) (c r k : Nat) (rv : Bool) (x : Int32) : SP := if m_gg s1 c r (m_ed c r) then (x, some (if rv then rev (m_lt s1 c r (m_ed c r)) k else m_lt s1 c r (m_ed c r))) else (-2, none)
/-- the state behind a method's end -/
def sp_s (o : SP) (s : Nat → Int32) : Nat → Int32 := match o.2 with | some s' => s' | none => s
def sp_w (o : SP) (s w : Nat → Int32) (q : Nat) : Nat → Int32 := match o.2 with | some _ => m_rw w s q | none => w
def sp_q (o : SP) (q : Nat) : Nat := match o.2 with | some _ => m_rq q | none => q
theorem m_put_cp (w s a : Nat → Int32) (q : Nat) : m_put w (fill s a 0 1972) q = m_put w s q := by
  funext x; unfold m_put
  by_cases h : 1972 * q ≤ x ∧ x < 1972 * q + 1972
  · rw [fill_in h.1 h.2, fill_in h.1 h.2, fill_in (by omega) (by omega)]
  · rw [fill_out (by omega), fill_out (by omega)]
theorem m_rw_cp (w s a : Nat → Int32) (q : Nat) : m_rw w (fill s a 0 1972) q = m_rw w s q := by
  unfold m_rw; rw [m_put_cp, m_put_cp]
theorem fill_back {s s1 a : Nat → Int32} (h : ∀ x, 1972 ≤ x → s1 x = s x) : fill (fill s a 0 1972) s1 0 1972 = s := by
  funext x
  by_cases hx : x < 1972
  · rw [fill_in (by omega) hx, fill_in (by omega) hx]
  · rw [fill_out (by omega)]; exact h x (by omega)
theorem upd_out {f : Nat → Int32} {k x : Nat} {v : Int32} (h : x ≠ k) : upd f k v x = f x := by unfold upd; rw [if_neg h]
theorem upd_in {f : Nat → Int32} {k : Nat} {v : Int32} : upd f k v k = v := by unfold upd; rw [if_pos rfl]
/-- the new state s' is recorded behind s -/
abbrev MR (h0 : GH) (D : va_G) (g : Nat → Nat) (o : SP) (s w a t b : Nat → Int32) (q : Nat) (ty : Int32) : GH := mh h0 D g (sp_s o s) (sp_w o s w q) a t b (nI (sp_q o q)) ty
theorem m_df_at {k i : Nat} (hi : i < 53) : m_df ((64 + 53 * k + i - 64) % 53) = m_df i := by rw [show (64 + 53 * k + i - 64) % 53 = i by omega]
theorem m_df_a {i : Nat} (h : i < 40) : m_df i = nI 10 := by unfold m_df; rw [if_pos h]; decide
theorem m_df_b {i : Nat} (h : 40 ≤ i) (h2 : i < 50) : m_df i = nI (i - 40) := by unfold m_df; rw [if_neg (by omega), if_pos h2]
theorem m_df_c {i : Nat} (h : i = 50) : m_df i = nI 0 := by subst h; decide
theorem m_df_d {i : Nat} (h : i = 51) : m_df i = -4 := by subst h; decide
theorem m_df_e {i : Nat} (h : 52 ≤ i) : m_df i = nI 1000 := by unfold m_df; rw [if_neg (by omega), if_neg (by omega), if_neg (by omega), if_neg (by omega)]; decide
theorem m_lt_q {s : Nat → Int32} {c r i : Nat} (hi : i ≤ 60) (e : Nat) : m_qn (m_lt s c r i) c r e = m_qn s c r e := m_qn_congr (fun k hk => m_lt_hi (by omega)) c r e
theorem m_bad_t {s : Nat → Int32} {c r i : Nat} (hi : i ≤ 60) (h1 : decide (m_lt s c r i (4 + i) = 1) = true) (h2 : 0 < m_qn (m_lt s c r i) c r i) : m_bad s c r i = true := by
  rw [m_lt_q hi] at h2
  have h3 := of_decide_eq_true h1
  rw [m_lt_hi (by omega)] at h3
  unfold m_bad
  rw [decide_eq_true h3, decide_eq_true h2]; rfl
theorem m_bad_f1 {s : Nat → Int32} {c r i : Nat} (h1 : decide (m_lt s c r i (4 + i) = 1) = false) : m_bad s c r i = false := by
  have h3 := of_decide_eq_false h1
  rw [m_lt_hi (by omega)] at h3
  unfold m_bad
  rw [decide_eq_false h3]; rfl
theorem m_bad_f2 {s : Nat → Int32} {c r i : Nat} (hi : i ≤ 60) (h2 : m_qn (m_lt s c r i) c r i = 0) : m_bad s c r i = false := by
  rw [m_lt_q hi] at h2
  unfold m_bad
  rw [decide_eq_false (p := 0 < m_qn s c r i) (by omega), Bool.and_false]
theorem m_gg_s (s : Nat → Int32) (c r i : Nat) : m_gg s c r (i + 1) = (m_gg s c r i && (!m_bad s c r i || decide (s 2 = 0))) := rfl
theorem m_gg_n {s : Nat → Int32} {c r i : Nat} (hb : m_bad s c r i = false) : m_gg s c r (i + 1) = m_gg s c r i := by rw [m_gg_s, hb]; simp
theorem m_gg_a {s : Nat → Int32} {c r i : Nat} (h : m_gg s c r i = false) : m_gg s c r (i + 1) = false := by rw [m_gg_s, h]; rfl
theorem m_gg_b {s : Nat → Int32} {c r i : Nat} (hb : m_bad s c r i = true) (h : ¬ m_lt s c r i 2 = 0) : m_gg s c r (i + 1) = false := by
  rw [m_lt_hi (by omega)] at h
  rw [m_gg_s, hb, decide_eq_false h]; simp
theorem m_gg_c {s : Nat → Int32} {c r i : Nat} (h : m_gg s c r i = true) (h2 : m_lt s c r i 2 = 0) : m_gg s c r (i + 1) = true := by
  rw [m_lt_hi (by omega)] at h2
  rw [m_gg_s, h, decide_eq_true h2]; simp
def sp_grid (s : Nat → Int32) (x y : Int32) : SP := if isIn1 x 6 && isIn1 y 6 then (nI (m_ed (tn x) (tn y)), some (m_beg s (tn x) (tn y))) else (-1, none)
def sp_set (s : Nat → Int32) (x y : Int32) : SP := if isIn x 2 && isIn y (if x = 0 then 2 else 1001) then (s (2 + tn x), some (upd s (2 + tn x) y)) else (-1, none)
def isPl (c r : Nat) (x y z : Int32) : Bool := isIn x (c * r) && isIn y 4 && isIn z 10
def sp_show (s : Nat → Int32) (c r : Nat) (x y z v : Int32) : SP := if isPl c r x y z && isIn v 10 then sp_keep (upd s (ix (tn x) (10 * tn y + tn z)) v) c r (tn x) true (s (ix (tn x) (10 * tn y + tn z))) else (-1, none)
def sp_erase (s : Nat → Int32) (c r : Nat) (x y z : Int32) : SP := if isPl c r x y z then (if s (ix (tn x) (10 * tn y + tn z)) = nI 10 then (-2, none) else sp_keep (upd s (ix (tn x) (10 * tn y + tn z)) (nI 10)) c r (tn x) true (s (ix (tn x) (10 * tn y + tn z)))) else (-1, none)
def sp_mean (s : Nat → Int32) (c r : Nat) (x y z : Int32) : SP := if isIn x (c * r) && isIn y 10 && isIn z 10 then sp_keep (upd s (ix (tn x) (40 + tn y)) z) c r (tn x) true (s (ix (tn x) (40 + tn y))) else (-1, none)
def rd_sign (s : Nat → Int32) (c r : Nat) (x y z : Int32) : Int32 := if isPl c r x y z then (if s (ix (tn x) (10 * tn y + tn z)) = nI 10 then -4 else s (ix (tn x) (10 * tn y + tn z))) else -1
def rd_meaning (s : Nat → Int32) (c r : Nat) (x y : Int32) : Int32 := if isIn x (c * r) && isIn y 10 then s (ix (tn x) (40 + tn y)) else -1
theorem m_lt_far {s : Nat → Int32} {c r i x : Nat} (hi : i ≤ 60) (h : 64 ≤ x) : m_lt s c r i x = s x := m_lt_hi (by omega)
theorem sp_keep_1 (s1 : Nat → Int32) (c r k : Nat) (rv : Bool) (x : Int32) : (sp_keep s1 c r k rv x).1 = if m_gg s1 c r (m_ed c r) then x else -2 := by unfold sp_keep; split <;> rfl
theorem sp_keep_2 {h0 : GH} {D : va_G} {g : Nat → Nat} {s s1 w a t b : Nat → Int32} {c r k q : Nat} {rv : Bool} {x ty : Int32} (he : m_ed c r ≤ 60) (h : ∀ x, 1972 ≤ x → s1 x = s x) :
    MR h0 D g (sp_keep s1 c r k rv x) s w (fill s a 0 1972) t b q ty = mh h0 D g (if m_gg s1 c r (m_ed c r) then (if rv then rev (m_lt s1 c r (m_ed c r)) k else m_lt s1 c r (m_ed c r)) else fill (fill s a 0 1972) (m_lt s1 c r (m_ed c r)) 0 1972) (if m_gg s1 c r (m_ed c r) then m_rw w (fill s a 0 1972) q else w) (fill s a 0 1972) t b (nI (if m_gg s1 c r (m_ed c r) then m_rq q else q)) ty := by
  unfold sp_keep
  by_cases hg : m_gg s1 c r (m_ed c r) = true
  · rw [if_pos hg, if_pos hg, if_pos hg, if_pos hg, m_rw_cp]; rfl
  · rw [if_neg hg, if_neg hg, if_neg hg, if_neg hg, fill_back (s := s) (fun x hx => by rw [m_lt_far he (by omega)]; exact h x hx)]; rfl
theorem sv_nI {s : Nat → Int32} {i v : Nat} (h : s i = nI v) (hv : v < 2 ^ 31) : sv s i = v := by unfold sv; rw [h, nI_clamp hv]
theorem MV.put1 {s : Nat → Int32} (V : MV s) {k j v : Nat} (_hk : k < 36) (hj : j < 40) (hv : v ≤ 10) : MV (upd s (ix k j) (nI v)) := by
  refine ⟨fun k' hk' j' hj' => ?_, fun k' hk' j' hj' => ?_⟩
  · by_cases h : ix k' j' = ix k j
    · rw [h, upd_in, sv_nI upd_in (by omega)]; exact ⟨rfl, hv⟩
    · rw [sv_congr (upd_out h), upd_out h]; exact V.1 k' hk' j' hj'
  · have h : ix k' (40 + j') ≠ ix k j := by show 64 + 53 * k' + (40 + j') ≠ 64 + 53 * k + j; omega
    rw [sv_congr (upd_out h), upd_out h]; exact V.2 k' hk' j' hj'
theorem MV.put2 {s : Nat → Int32} (V : MV s) {k j v : Nat} (_hk : k < 36) (hj : j < 10) (hv : v ≤ 9) : MV (upd s (ix k (40 + j)) (nI v)) := by
  refine ⟨fun k' hk' j' hj' => ?_, fun k' hk' j' hj' => ?_⟩
  · have h : ix k' j' ≠ ix k (40 + j) := by show 64 + 53 * k' + j' ≠ 64 + 53 * k + (40 + j); omega
    rw [sv_congr (upd_out h), upd_out h]; exact V.1 k' hk' j' hj'
  · by_cases h : ix k' (40 + j') = ix k (40 + j)
    · rw [h, upd_in, sv_nI upd_in (by omega)]; exact ⟨rfl, hv⟩
    · rw [sv_congr (upd_out h), upd_out h]; exact V.2 k' hk' j' hj'
theorem upd_lo {s : Nat → Int32} {k j x : Nat} {v : Int32} (h : x < 64) : upd s (ix k j) v x = s x := upd_out (by show x ≠ 64 + 53 * k + j; omega)
theorem upd_far {s : Nat → Int32} {k j x : Nat} {v : Int32} (hk : k < 36) (hj : j < 53) (h : 1972 ≤ x) : upd s (ix k j) v x = s x := upd_out (by show x ≠ 64 + 53 * k + j; omega)
