/-! Settling, on. -/
theorem allb_t {f : Nat → Bool} : ∀ {n}, (∀ p, p < n → f p = true) → allb f n = true
  | 0, _ => rfl
  | n + 1, h => by show (allb f n && f n) = true; rw [allb_t (fun p hp => h p (by omega)), h n (by omega)]; rfl
theorem allb_f {f : Nat → Bool} {p : Nat} (hp : f p = false) : ∀ {n}, p < n → allb f n = false
  | 0, h => absurd h (Nat.not_lt_zero _)
  | n + 1, h => by
    show (allb f n && f n) = false
    by_cases e : p = n
    · subst e; rw [hp, Bool.and_false]
    · rw [allb_f hp (n := n) (by omega), Bool.false_and]
theorem m_mean_congr2 {s s' : Nat → Int32} {k d p : Nat} (V : MV s) (hk : k < 36) (hd : d < 4) (hp : p < 10) (h : ∀ j, j < 53 → s' (ix k j) = s (ix k j)) : m_mean s' k d p = m_mean s k d p := by
  have h1 := V.1 k hk (10 * d + p) (by omega)
  unfold m_mean
  rw [sv_congr (h (10 * d + p) (by omega)), sv_congr (h (40 + sv s (ix k (10 * d + p))) (by omega))]
theorem m_fd_congr {s s' : Nat → Int32} {k m : Nat} (h : ∀ j, j < 10 → s' (ix k (40 + j)) = s (ix k (40 + j))) : ∀ {N j}, j + N ≤ 10 → m_fd s' k m N j = m_fd s k m N j := by
  intro N
  induction N with
  | zero => intro j _; rfl
  | succ N ih =>
    intro j hj
    show (if sv s' (ix k (40 + j)) = m then nI j else m_fd s' k m N (j + 1)) = (if sv s (ix k (40 + j)) = m then nI j else m_fd s k m N (j + 1))
    rw [sv_congr (h j (by omega)), ih (by omega)]
theorem m_sf_congr {s s' : Nat → Int32} {k v m : Nat} (hv : v ≤ 10) (h : ∀ j, j < 11 → s' (ix k (40 + j)) = s (ix k (40 + j))) : m_sf s' k v m = m_sf s k v m := by
  unfold m_sf
  rw [sv_congr (h v (by omega)), m_fd_congr (fun j hj => h j (by omega)) (by omega)]
theorem st_in {s : Nat → Int32} {c r e : Nat} {f : Bool} (I : MI s c r) (he : e < m_ed c r) : st_o c r e f < c * r ∧ st_d c r e f < 4 := by
  have h1 := m_fs_lt I he
  have h2 := m_sd_lt c r e
  have h3 := m_op_lt (m_sd c r e)
  cases f
  · exact ⟨h1.1, by show m_sd c r e < 4; omega⟩
  · exact ⟨h1.2.1, by show m_op (m_sd c r e) < 4; omega⟩
theorem st_s_out {s : Nat → Int32} {c r e : Nat} {f : Bool} {p x : Nat} (h : x < st_b c r e f ∨ st_b c r e f + p ≤ x) : st_s s c r e f p x = s x := fill_out h
theorem st_far {s : Nat → Int32} {c r e : Nat} {f : Bool} {p x : Nat} (ho : st_o c r e f < 36) (hd : st_d c r e f < 4) (hp : p ≤ 10) (h : 1972 ≤ x) : st_s s c r e f p x = s x := st_s_out (Or.inr (by show 64 + 53 * st_o c r e f + 10 * st_d c r e f + p ≤ x; omega))
theorem st_lo {s : Nat → Int32} {c r e : Nat} {f : Bool} {p x : Nat} (h : x < 64) : st_s s c r e f p x = s x := st_s_out (Or.inl (by show x < 64 + 53 * st_o c r e f + 10 * st_d c r e f; omega))
/-- the other sheet's cells stay, but for the side's signs -/
theorem st_leg {s : Nat → Int32} {c r e : Nat} {f : Bool} {p j : Nat} (hd : st_d c r e f < 4) (hp : p ≤ 10) (hj : 40 ≤ j) : st_s s c r e f p (ix (st_o c r e f) j) = s (ix (st_o c r e f) j) :=
  st_s_out (Or.inr (by show 64 + 53 * st_o c r e f + 10 * st_d c r e f + p ≤ 64 + 53 * st_o c r e f + j; omega))
theorem st_sh {s : Nat → Int32} {c r e : Nat} {f : Bool} {p j k : Nat} (hd : st_d c r e f < 4) (hp : p ≤ 10) (hj : j < 53) (hk : k ≠ st_o c r e f) : st_s s c r e f p (ix k j) = s (ix k j) :=
  st_s_out (by show 64 + 53 * k + j < 64 + 53 * st_o c r e f + 10 * st_d c r e f ∨ 64 + 53 * st_o c r e f + 10 * st_d c r e f + p ≤ 64 + 53 * k + j; omega)
theorem st_at {s : Nat → Int32} {c r e : Nat} {f : Bool} {p : Nat} : st_s s c r e f p (ix (st_o c r e f) (10 * st_d c r e f + p)) = s (ix (st_o c r e f) (10 * st_d c r e f + p)) :=
  st_s_out (Or.inr (by show 64 + 53 * st_o c r e f + 10 * st_d c r e f + p ≤ 64 + 53 * st_o c r e f + (10 * st_d c r e f + p); omega))
theorem st_s_s {s : Nat → Int32} {c r e : Nat} {f : Bool} {p : Nat} : upd (st_s s c r e f p) (ix (st_o c r e f) (10 * st_d c r e f + p)) (st_S s c r e f p) = st_s s c r e f (p + 1) := by
  have e1 : ix (st_o c r e f) (10 * st_d c r e f + p) = st_b c r e f + p := by show 64 + 53 * st_o c r e f + (10 * st_d c r e f + p) = 64 + 53 * st_o c r e f + 10 * st_d c r e f + p; omega
  rw [e1]
  unfold st_s
  rw [fill_s (by omega) (by rw [Nat.add_sub_cancel_left])]
  rfl
theorem st_s_0 {s : Nat → Int32} {c r e : Nat} {f : Bool} : st_s s c r e f 0 = s := fill_0 _ _ _
theorem st_mean {s S : Nat → Int32} {c r e : Nat} {f : Bool} {p i : Nat} (I : MI s c r) (V : MV s) (he : e < m_ed c r) (hp : p < 10) (hi : i ≤ 10) (hS : S = st_s s c r e f i) : (f = true → m_fm S c r e p = m_fm s c r e p) ∧ (f = false → m_sm S c r e p = m_sm s c r e p) := by
  have h1 := m_fs_lt I he
  have h2 := (m_ed_le I).2.1
  have h3 := m_sd_lt c r e
  have h4 := m_op_lt (m_sd c r e)
  have h5 := (st_in (f := f) I he).2
  subst hS
  refine ⟨fun hf => ?_, fun hf => ?_⟩
  · subst hf
    exact m_mean_congr2 V (by omega) (by omega) hp (fun j hj => st_sh h5 hi hj (by show m_fst c r e ≠ m_snd c r e; omega))
  · subst hf
    exact m_mean_congr2 V (by omega) (by omega) hp (fun j hj => st_sh h5 hi hj (by show m_snd c r e ≠ m_fst c r e; omega))
theorem st_n_0 (s : Nat → Int32) (c r e : Nat) (f : Bool) : st_n s c r e f 0 = 0 := rfl
theorem sp_settle_f {s : Nat → Int32} {c r e : Nat} {y : Int32} (he : e < 2 ^ 31) (h1 : isIn (nI e) (m_ed c r) = true) (h2 : y = nI (m_fst c r e) ∨ y = nI (m_snd c r e)) {f : Bool} (hf : decide (y = nI (m_fst c r e)) = f) :
    sp_settle s c r (nI e) y = if st_k s c r e f then (nI (st_n s c r e f 10), some (if 0 < st_n s c r e f 10 then rev (st_s s c r e f 10) (st_o c r e f) else st_s s c r e f 10)) else (-2, none) := by
  have h3 : (decide (y = nI (m_fst c r e)) || decide (y = nI (m_snd c r e))) = true := by
    rcases h2 with h | h
    · rw [decide_eq_true h, Bool.true_or]
    · rw [decide_eq_true h, Bool.or_true]
  unfold sp_settle
  rw [h1, tn_nI he, h3, hf]
  rfl
theorem st_c_t {s : Nat → Int32} {c r e p : Nat} {f : Bool} (h : st_S s c r e f p ≠ s (ix (st_o c r e f) (10 * st_d c r e f + p))) : st_c s c r e f p = true := decide_eq_true h
theorem st_c_f {s : Nat → Int32} {c r e p : Nat} {f : Bool} (h : st_S s c r e f p = s (ix (st_o c r e f) (10 * st_d c r e f + p))) : st_c s c r e f p = false := decide_eq_false (fun z => z h)
