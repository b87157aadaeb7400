/-! What the reference computes, in numbers: the state is its row of ints s; c columns, r rows. -/
/-- a cell of the state as a number -/
def sv (s : Nat → Int32) (i : Nat) : Nat := (s i).toNatClampNeg
/-- the place of word j of sheet k -/
abbrev ix (k j : Nat) : Nat := 64 + 53 * k + j
theorem ix_ge (k j : Nat) : 64 ≤ ix k j := by unfold ix; omega
/-- how many edges lie in rows, and in all -/
abbrev m_re (c r : Nat) : Nat := (c - 1) * r
abbrev m_ed (c r : Nat) : Nat := (c - 1) * r + c * (r - 1)
def m_fst (c r e : Nat) : Nat := if e < m_re c r then e / (c - 1) * c + e % (c - 1) else e - m_re c r
def m_snd (c r e : Nat) : Nat := m_fst c r e + (if e < m_re c r then 1 else c)
def m_sd (c r e : Nat) : Nat := if e < m_re c r then 1 else 2
/-- the other side of an edge's side -/
def m_op (d : Nat) : Nat := if d = 1 then 3 else 0
def m_mean (s : Nat → Int32) (k d p : Nat) : Nat := if sv s (ix k (10 * d + p)) = 10 then 10 else sv s (ix k (40 + sv s (ix k (10 * d + p))))
def m_fm (s : Nat → Int32) (c r e p : Nat) : Nat := m_mean s (m_fst c r e) (m_sd c r e) p
def m_sm (s : Nat → Int32) (c r e p : Nat) : Nat := m_mean s (m_snd c r e) (m_op (m_sd c r e)) p
def m_rs (s : Nat → Int32) (c r e p : Nat) : Nat := if m_fm s c r e p = m_sm s c r e p then 0 else if m_fm s c r e p = 10 ∨ m_sm s c r e p = 10 then 1 else 2
/-- how many of the first n numbers have a property -/
def cnt (f : Nat → Bool) : Nat → Nat
  | 0 => 0
  | n + 1 => cnt f n + (if f n then 1 else 0)
theorem cnt_le (f : Nat → Bool) : ∀ n, cnt f n ≤ n
  | 0 => Nat.le_refl _
  | n + 1 => by have := cnt_le f n; unfold cnt; split <;> omega
def m_qn (s : Nat → Int32) (c r e : Nat) : Nat := cnt (fun p => decide (0 < m_rs s c r e p)) 10
def m_cr (s : Nat → Int32) (c r e : Nat) : Nat := cnt (fun p => decide (m_fm s c r e p ≠ 10 ∧ m_sm s c r e p ≠ 10)) 10
/-- the grid's measures -/
def MI (s : Nat → Int32) (c r : Nat) : Prop := s 0 = nI c ∧ s 1 = nI r ∧ 1 ≤ c ∧ c ≤ 6 ∧ 1 ≤ r ∧ r ≤ 6
/-- signs and legends are as they may be -/
def MV (s : Nat → Int32) : Prop := (∀ k, k < 36 → ∀ j, j < 40 → s (ix k j) = nI (sv s (ix k j)) ∧ sv s (ix k j) ≤ 10) ∧ (∀ k, k < 36 → ∀ j, j < 10 → s (ix k (40 + j)) = nI (sv s (ix k (40 + j))) ∧ sv s (ix k (40 + j)) ≤ 9)
theorem all_lt {N : Nat} {f : Nat → Bool} (h : (List.range N).all f = true) {i : Nat} (hi : i < N) : f i = true := List.all_eq_true.mp h i (List.mem_range.mpr hi)
theorem m_grid0b : (List.range 7).all (fun c => (List.range 7).all (fun r => decide (1 ≤ c → 1 ≤ r → (c - 1) * r + c * (r - 1) ≤ 60 ∧ c * r ≤ 36 ∧ (c - 1) * r ≤ 30 ∧ c * (r - 1) ≤ 30))) = true := by decide +kernel
theorem m_grid1b : (List.range 7).all (fun c => (List.range 7).all (fun r => (List.range 60).all (fun e => decide (1 ≤ c → 1 ≤ r → e < (c - 1) * r + c * (r - 1) → m_fst c r e < c * r ∧ m_snd c r e < c * r ∧ m_fst c r e < m_snd c r e)))) = true := by decide +kernel
theorem m_grid2b : (List.range 7).all (fun c => (List.range 7).all (fun r => (List.range 60).all (fun e => decide (1 ≤ c → 1 ≤ r → e < (c - 1) * r → 1 < c ∧ e / (c - 1) * c ≤ 36)))) = true := by decide +kernel
theorem m_grid0 {c r : Nat} (hc : c < 7) (hr : r < 7) : 1 ≤ c → 1 ≤ r → (c - 1) * r + c * (r - 1) ≤ 60 ∧ c * r ≤ 36 ∧ (c - 1) * r ≤ 30 ∧ c * (r - 1) ≤ 30 := of_decide_eq_true (all_lt (all_lt m_grid0b hc) hr)
theorem m_grid1 {c r e : Nat} (hc : c < 7) (hr : r < 7) (he : e < 60) : 1 ≤ c → 1 ≤ r → e < (c - 1) * r + c * (r - 1) → m_fst c r e < c * r ∧ m_snd c r e < c * r ∧ m_fst c r e < m_snd c r e := of_decide_eq_true (all_lt (all_lt (all_lt m_grid1b hc) hr) he)
theorem m_grid2 {c r e : Nat} (hc : c < 7) (hr : r < 7) (he : e < 60) : 1 ≤ c → 1 ≤ r → e < (c - 1) * r → 1 < c ∧ e / (c - 1) * c ≤ 36 := of_decide_eq_true (all_lt (all_lt (all_lt m_grid2b hc) hr) he)
theorem m_sd_lt (c r e : Nat) : m_sd c r e = 1 ∨ m_sd c r e = 2 := by unfold m_sd; split <;> simp
theorem m_op_lt (d : Nat) : m_op d = 0 ∨ m_op d = 3 := by unfold m_op; split <;> simp
theorem m_ed_le {s : Nat → Int32} {c r : Nat} (I : MI s c r) : m_ed c r ≤ 60 ∧ c * r ≤ 36 ∧ m_re c r ≤ 30 ∧ c * (r - 1) ≤ 30 := m_grid0 (by have := I.2.2.2.1; omega) (by have := I.2.2.2.2.2; omega) I.2.2.1 I.2.2.2.2.1
theorem m_fs_lt {s : Nat → Int32} {c r e : Nat} (I : MI s c r) (he : e < m_ed c r) : m_fst c r e < c * r ∧ m_snd c r e < c * r ∧ m_fst c r e < m_snd c r e :=
  m_grid1 (by have := I.2.2.2.1; omega) (by have := I.2.2.2.2.2; omega) (by have := (m_ed_le I).1; omega) I.2.2.1 I.2.2.2.2.1 he
theorem m_mean_le {s : Nat → Int32} (V : MV s) {k d p : Nat} (hk : k < 36) (hd : d < 4) (hp : p < 10) : m_mean s k d p ≤ 10 := by
  unfold m_mean
  split
  · exact Nat.le_refl _
  · have h1 := (V.1 k hk (10 * d + p) (by omega)).2
    have h2 := (V.2 k hk (sv s (ix k (10 * d + p))) (by omega)).2
    omega
/-- a given int is one of 0 .. n-1 -/
def isIn (x : Int32) (n : Nat) : Bool := decide (0 ≤ x.toInt ∧ x.toInt < n)
theorem isIn_f0 {x : Int32} {n : Nat} (h : x < 0) : isIn x n = false := by
  rw [Int32.lt_iff_toInt_lt, Int32.toInt_zero] at h
  exact decide_eq_false (by omega)
theorem isIn_f1 {x : Int32} {n : Nat} (hn : n < 2 ^ 31) (h : nI n ≤ x) : isIn x n = false := by
  rw [Int32.le_iff_toInt_le, nI_toInt hn] at h
  exact decide_eq_false (by omega)
theorem isIn_t {x : Int32} {n : Nat} (h0 : ¬ x < 0) (h : ¬ nI n ≤ x) : isIn x n = true := by
  obtain ⟨j, hj, rfl⟩ := nI_of h0
  refine decide_eq_true ?_
  rw [nI_toInt hj]
  refine ⟨by omega, ?_⟩
  by_cases hn : n < 2 ^ 31
  · have : j < n := Nat.lt_of_not_le fun q => h ((nI_leI hn hj).mpr q)
    omega
  · omega
theorem isIn_ex {x : Int32} {n : Nat} (h : isIn x n = true) : ∃ k : Nat, k < n ∧ x = nI k := by
  have h := of_decide_eq_true h
  have h0 : ¬ x < 0 := by rw [Int32.lt_iff_toInt_lt, Int32.toInt_zero]; omega
  obtain ⟨j, hj, rfl⟩ := nI_of h0
  rw [nI_toInt hj] at h
  exact ⟨j, by omega, rfl⟩
theorem isIn_nI {k n : Nat} (hk : k < 2 ^ 31) : isIn (nI k) n = decide (k < n) := by
  unfold isIn
  rw [nI_toInt hk]
  by_cases h : k < n
  · rw [decide_eq_true h]; exact decide_eq_true (by omega)
  · rw [decide_eq_false h]; exact decide_eq_false (by omega)
/-- a run of a row written -/
def fill (f s : Nat → Int32) (lo hi : Nat) : Nat → Int32 := fun x => if lo ≤ x ∧ x < hi then f x else s x
theorem fill_0 (f s : Nat → Int32) (lo : Nat) : fill f s lo lo = s := by
  funext x; unfold fill; rw [if_neg (by omega)]
theorem fill_s {f s : Nat → Int32} {lo hi : Nat} {v : Int32} (h : lo ≤ hi) (hv : v = f hi) : upd (fill f s lo hi) hi v = fill f s lo (hi + 1) := by
  funext x; unfold fill upd
  by_cases h1 : x = hi
  · subst h1; rw [if_pos rfl, if_pos (by omega), hv]
  · rw [if_neg h1]
    show (if lo ≤ x ∧ x < hi then f x else s x) = _
    by_cases h2 : lo ≤ x ∧ x < hi
    · rw [if_pos h2, if_pos (by omega)]
    · rw [if_neg h2, if_neg (by omega)]
theorem fill_out {f s : Nat → Int32} {lo hi x : Nat} (h : x < lo ∨ hi ≤ x) : fill f s lo hi x = s x := by unfold fill; rw [if_neg (by omega)]
theorem fill_in {f s : Nat → Int32} {lo hi x : Nat} (h : lo ≤ x) (h2 : x < hi) : fill f s lo hi x = f x := by unfold fill; rw [if_pos ⟨h, h2⟩]
/-- the edge of a side of a sheet -/
def m_eo (c r k d : Nat) : Int32 := if d = 0 then (if 0 < k / c then nI (m_re c r + k - c) else -4) else if d = 1 then (if k % c < c - 1 then nI (k / c * (c - 1) + k % c) else -4) else if d = 2 then (if k / c < r - 1 then nI (m_re c r + k) else -4) else (if 0 < k % c then nI (k / c * (c - 1) + k % c - 1) else -4)
theorem m_grid3b : (List.range 7).all (fun c => (List.range 7).all (fun r => (List.range 60).all (fun e => decide (1 ≤ c → 1 ≤ r → e < (c - 1) * r → e / (c - 1) * c + e % (c - 1) < 36)))) = true := by decide +kernel
/-- all of the first n -/
def allb (f : Nat → Bool) : Nat → Bool
  | 0 => true
  | n + 1 => allb f n && f n
theorem sv_congr {s s' : Nat → Int32} {i : Nat} (h : s' i = s i) : sv s' i = sv s i := by unfold sv; rw [h]
theorem m_mean_congr {s s' : Nat → Int32} (h : ∀ i, 64 ≤ i → s' i = s i) (k d p : Nat) : m_mean s' k d p = m_mean s k d p := by
  unfold m_mean
  rw [sv_congr (h _ (ix_ge k (10 * d + p))), sv_congr (h _ (ix_ge k (40 + sv s (ix k (10 * d + p)))))]
theorem m_fm_congr {s s' : Nat → Int32} (h : ∀ i, 64 ≤ i → s' i = s i) (c r e p : Nat) : m_fm s' c r e p = m_fm s c r e p := m_mean_congr h _ _ _
theorem m_sm_congr {s s' : Nat → Int32} (h : ∀ i, 64 ≤ i → s' i = s i) (c r e p : Nat) : m_sm s' c r e p = m_sm s c r e p := m_mean_congr h _ _ _
theorem m_rs_congr {s s' : Nat → Int32} (h : ∀ i, 64 ≤ i → s' i = s i) (c r e p : Nat) : m_rs s' c r e p = m_rs s c r e p := by
  unfold m_rs; rw [m_fm_congr h, m_sm_congr h]
theorem m_qn_congr {s s' : Nat → Int32} (h : ∀ i, 64 ≤ i → s' i = s i) (c r e : Nat) : m_qn s' c r e = m_qn s c r e := by
  unfold m_qn; congr 1; funext p; rw [m_rs_congr h]
theorem MV.congr {s s' : Nat → Int32} (V : MV s) (h : ∀ i, 64 ≤ i → s' i = s i) : MV s' := by
  refine ⟨fun k hk j hj => ?_, fun k hk j hj => ?_⟩
  · rw [sv_congr (h _ (ix_ge k j)), h _ (ix_ge k j)]; exact V.1 k hk j hj
  · rw [sv_congr (h _ (ix_ge k (40 + j))), h _ (ix_ge k (40 + j))]; exact V.2 k hk j hj
theorem MI.congr {s s' : Nat → Int32} {c r : Nat} (I : MI s c r) (h0 : s' 0 = s 0) (h1 : s' 1 = s 1) : MI s' c r := by
  unfold MI; rw [h0, h1]; exact I
/-- an agreed edge that isn't clean -/
def m_bad (s : Nat → Int32) (c r e : Nat) : Bool := decide (s (4 + e) = 1) && decide (0 < m_qn s c r e)
/-- such edges, of the first i, let go -/
def m_lt (s : Nat → Int32) (c r i : Nat) : Nat → Int32 := fun k => if 4 ≤ k ∧ k < 4 + i ∧ m_bad s c r (k - 4) = true then 0 else s k
def m_gg (s : Nat → Int32) (c r i : Nat) : Bool := allb (fun e => !m_bad s c r e || decide (s 2 = 0)) i
theorem m_lt_0 (s : Nat → Int32) (c r : Nat) : m_lt s c r 0 = s := by funext k; unfold m_lt; rw [if_neg (by omega)]
theorem m_lt_hi {s : Nat → Int32} {c r i k : Nat} (h : k < 4 ∨ 4 + i ≤ k) : m_lt s c r i k = s k := by unfold m_lt; rw [if_neg (by omega)]
theorem m_lt_s1 {s : Nat → Int32} {c r i : Nat} (hb : m_bad s c r i = true) : upd (m_lt s c r i) (4 + i) (nI 0) = m_lt s c r (i + 1) := by
  funext k; unfold m_lt upd
  by_cases h1 : k = 4 + i
  · subst h1; rw [if_pos rfl, if_pos ⟨by omega, by omega, by rw [Nat.add_sub_cancel_left]; exact hb⟩]; exact nI_0
  · rw [if_neg h1]
    show (if 4 ≤ k ∧ k < 4 + i ∧ m_bad s c r (k - 4) = true then 0 else s k) = _
    by_cases h2 : 4 ≤ k ∧ k < 4 + i ∧ m_bad s c r (k - 4) = true
    · rw [if_pos h2, if_pos ⟨h2.1, by omega, h2.2.2⟩]
    · rw [if_neg h2, if_neg (fun q => h2 ⟨q.1, by omega, q.2.2⟩)]
theorem m_lt_s0 {s : Nat → Int32} {c r i : Nat} (hb : m_bad s c r i = false) : m_lt s c r i = m_lt s c r (i + 1) := by
  funext k; unfold m_lt
  by_cases h2 : 4 ≤ k ∧ k < 4 + i ∧ m_bad s c r (k - 4) = true
  · rw [if_pos h2, if_pos ⟨h2.1, by omega, h2.2.2⟩]
  · rw [if_neg h2, if_neg]
    intro q
    by_cases h3 : k = 4 + i
    · subst h3; rw [Nat.add_sub_cancel_left] at q; rw [hb] at q; exact absurd q.2.2 (by decide)
    · exact h2 ⟨q.1, by omega, q.2.2⟩
/-- history: the first four rows of saved states -/
def m_put (w a : Nat → Int32) (q : Nat) : Nat → Int32 := fill (fun x => a (x - 1972 * q)) w (1972 * q) (1972 * q + 1972)
def m_sh (w : Nat → Int32) : Nat → Int32 := fill (fun x => w (x + 1972)) w 0 5916
def m_rw (w a : Nat → Int32) (q : Nat) : Nat → Int32 := if q = 4 then m_put (m_sh w) a 3 else m_put w a q
def m_rq (q : Nat) : Nat := if q = 4 then 4 else q + 1
/-- a new grid -/
def m_df (i : Nat) : Int32 := if i < 40 then 10 else if i < 50 then nI (i - 40) else if i = 50 then 0 else if i = 51 then -4 else 1000
def m_b1 (s : Nat → Int32) (c r : Nat) : Nat → Int32 := fill (fun _ => 0) (upd (upd s 0 (nI c)) 1 (nI r)) 4 64
def m_beg (s : Nat → Int32) (c r : Nat) : Nat → Int32 := fill (fun x => m_df ((x - 64) % 53)) (m_b1 s c r) 64 1972
/-- counting that goes on -/
theorem cnt_s {f : Nat → Bool} {n : Nat} (h : f n = true) : cnt f (n + 1) = cnt f n + 1 := by show cnt f n + _ = _; rw [h]; rfl
theorem cnt_n {f : Nat → Bool} {n : Nat} (h : f n = false) : cnt f (n + 1) = cnt f n + 0 := by show cnt f n + _ = _; rw [h]; rfl
