/-! Edges of a sheet, quarrels by number, blocks. -/
def m_eb (c r k d : Nat) : Bool := if d = 0 then decide (0 < k / c) else if d = 1 then decide (k % c < c - 1) else if d = 2 then decide (k / c < r - 1) else decide (0 < k % c)
def m_ej (c r k d : Nat) : Nat := if d = 0 then m_re c r + k - c else if d = 1 then k / c * (c - 1) + k % c else if d = 2 then m_re c r + k else k / c * (c - 1) + k % c - 1
theorem m_eo_eq (c r k d : Nat) : m_eo c r k d = if m_eb c r k d then nI (m_ej c r k d) else -4 := by
  unfold m_eo m_eb m_ej
  by_cases h0 : d = 0
  · rw [if_pos h0, if_pos h0, if_pos h0]; simp only [decide_eq_true_eq]
  · rw [if_neg h0, if_neg h0, if_neg h0]
    by_cases h1 : d = 1
    · rw [if_pos h1, if_pos h1, if_pos h1]; simp only [decide_eq_true_eq]
    · rw [if_neg h1, if_neg h1, if_neg h1]
      by_cases h2 : d = 2
      · rw [if_pos h2, if_pos h2, if_pos h2]; simp only [decide_eq_true_eq]
      · rw [if_neg h2, if_neg h2, if_neg h2]; simp only [decide_eq_true_eq]
theorem m_grid4b : (List.range 7).all (fun c => (List.range 7).all (fun r => (List.range 36).all (fun k => (List.range 4).all (fun d => decide (1 ≤ c → 1 ≤ r → k < c * r → m_eb c r k d = true → m_ej c r k d < (c - 1) * r + c * (r - 1)))))) = true := by decide +kernel
theorem m_ej_lt {s : Nat → Int32} {c r k d : Nat} (I : MI s c r) (hk : k < c * r) (hd : d < 4) (h : m_eb c r k d = true) : m_ej c r k d < m_ed c r :=
  of_decide_eq_true (all_lt (all_lt (all_lt (all_lt m_grid4b (show c < 7 by have := I.2.2.2.1; omega)) (show r < 7 by have := I.2.2.2.2.2; omega)) (show k < 36 by have := (m_ed_le I).2.1; omega)) hd) I.2.2.1 I.2.2.2.2.1 hk h
theorem nI_ne_neg {j : Nat} (hj : j < 2 ^ 31) : nI j ≠ -4 := by
  intro h
  have := nI_toInt hj
  rw [h, show (-4 : Int32).toInt = -4 by decide] at this
  omega
theorem m_eo_t {s : Nat → Int32} {c r k d : Nat} (I : MI s c r) (hk : k < c * r) (hd : d < 4) (h : ¬ m_eo c r k d = -4) : m_eb c r k d = true ∧ m_eo c r k d = nI (m_ej c r k d) ∧ m_ej c r k d < m_ed c r := by
  rw [m_eo_eq] at h ⊢
  by_cases hb : m_eb c r k d = true
  · rw [if_pos hb]; exact ⟨hb, rfl, m_ej_lt I hk hd hb⟩
  · rw [if_neg hb] at h; exact absurd rfl h
theorem m_eo_f {s : Nat → Int32} {c r k d : Nat} (I : MI s c r) (hk : k < c * r) (hd : d < 4) (h : m_eo c r k d = -4) : m_eb c r k d = false := by
  rw [m_eo_eq] at h
  by_cases hb : m_eb c r k d = true
  · rw [if_pos hb] at h
    have h1 := m_ej_lt I hk hd hb
    have h2 := (m_ed_le I).1
    exact absurd h (nI_ne_neg (by omega))
  · simpa using hb
def m_ef (s : Nat → Int32) (c r k : Nat) (ag : Bool) (d : Nat) : Bool := m_eb c r k d && (!ag || decide (s (4 + m_ej c r k d) = 1))
def m_eof (s : Nat → Int32) (c r k : Nat) (ag : Bool) : Nat := cnt (m_ef s c r k ag) 4
def m_sgn (s : Nat → Int32) (k : Nat) : Nat := cnt (fun j => decide (s (ix k j) ≠ nI 10)) 40
def m_upd (s : Nat → Int32) (k : Nat) : Bool := decide (s (ix k 51) = s (ix k 50))
def m_pf (s : Nat → Int32) (b : Bool) (k : Nat) : Bool := decide (s (ix k 51) ≠ -4) && (!b || m_upd s k)
def m_pub (s : Nat → Int32) (c r : Nat) (b : Bool) : Nat := cnt (m_pf s b) (c * r)
def rd_edgeAt (c r : Nat) (x y : Int32) : Int32 := if isIn x (c * r) && isIn y 4 then m_eo c r (tn x) (tn y) else -1
def m_qa (s : Nat → Int32) (c r e p z : Nat) : Int32 := if z = 0 then nI p else if z = 1 then nI (m_rs s c r e p) else if z = 2 then (if m_fm s c r e p = 10 then -4 else nI (m_fm s c r e p)) else (if m_sm s c r e p = 10 then -4 else nI (m_sm s c r e p))
/-- the left-th quarrel from position p on -/
def m_qf (s : Nat → Int32) (c r e z : Nat) : Nat → Nat → Nat → Int32
  | 0, _, _ => -4
  | N + 1, p, left => if 0 < m_rs s c r e p then (if left = 0 then m_qa s c r e p z else m_qf s c r e z N (p + 1) (left - 1)) else m_qf s c r e z N (p + 1) left
def rd_quarrel (s : Nat → Int32) (c r : Nat) (x y z : Int32) : Int32 := if isIn x (m_ed c r) && decide (0 ≤ y) && isIn z 4 then m_qf s c r (tn x) (tn z) 10 0 (tn y) else -1
def sp_agree (s : Nat → Int32) (c r : Nat) (x : Int32) : SP := if isIn x (m_ed c r) then (if 0 < m_qn s c r (tn x) then (-2, none) else (s (4 + tn x), some (upd s (4 + tn x) (nI 1)))) else (-1, none)
theorem nI_dec {n : Nat} (h : 0 < n) : nI n + Int32.ofInt (-1) = nI (n - 1) := by
  obtain ⟨m, rfl⟩ : ∃ m, n = m + 1 := ⟨n - 1, by omega⟩
  exact pk_m1 m
/-- blocks: one edge, a pass over the first i edges, whether it changed something, passes until none does -/
def m_bs (ag : Nat → Bool) (c r : Nat) (B : Nat → Nat) (e : Nat) : Nat → Nat := if ag e && decide (B (m_fst c r e) ≠ B (m_snd c r e)) then (fun k => if k = m_fst c r e ∨ k = m_snd c r e then (if B (m_fst c r e) < B (m_snd c r e) then B (m_fst c r e) else B (m_snd c r e)) else B k) else B
def m_bp (ag : Nat → Bool) (c r : Nat) (B : Nat → Nat) : Nat → (Nat → Nat)
  | 0 => B
  | i + 1 => m_bs ag c r (m_bp ag c r B i) i
def m_bc (ag : Nat → Bool) (c r : Nat) (B : Nat → Nat) : Nat → Bool
  | 0 => false
  | i + 1 => m_bc ag c r B i || (ag i && decide (m_bp ag c r B i (m_fst c r i) ≠ m_bp ag c r B i (m_snd c r i)))
def m_bt (ag : Nat → Bool) (c r : Nat) : Nat → (Nat → Nat) → (Nat → Nat)
  | 0, B => B
  | N + 1, B => if m_bc ag c r B (m_ed c r) then m_bt ag c r N (m_bp ag c r B (m_ed c r)) else B
def bsum (B : Nat → Nat) : Nat → Nat
  | 0 => 0
  | n + 1 => bsum B n + B n
theorem bsum_le {B B' : Nat → Nat} (h : ∀ k, B' k ≤ B k) : ∀ n, bsum B' n ≤ bsum B n
  | 0 => Nat.le_refl _
  | n + 1 => Nat.add_le_add (bsum_le h n) (h n)
theorem bsum_lt {B B' : Nat → Nat} (h : ∀ k, B' k ≤ B k) {j : Nat} (hj : B' j < B j) : ∀ n, j < n → bsum B' n < bsum B n
  | 0, hn => absurd hn (Nat.not_lt_zero _)
  | n + 1, hn => by
    show bsum B' n + B' n < bsum B n + B n
    have h1 := h n
    by_cases hjn : j = n
    · subst hjn; have := bsum_le h j; omega
    · have := bsum_lt h hj n (by omega); omega
theorem m_bs_le (ag : Nat → Bool) (c r : Nat) (B : Nat → Nat) (e k : Nat) : m_bs ag c r B e k ≤ B k := by
  unfold m_bs
  by_cases h : (ag e && decide (B (m_fst c r e) ≠ B (m_snd c r e))) = true
  · rw [if_pos h]
    show (if k = m_fst c r e ∨ k = m_snd c r e then _ else _) ≤ _
    by_cases hk : k = m_fst c r e ∨ k = m_snd c r e
    · rw [if_pos hk]
      rcases hk with rfl | rfl <;> split <;> omega
    · rw [if_neg hk]; exact Nat.le_refl _
  · rw [if_neg h]; exact Nat.le_refl _
theorem m_bs_lt {ag : Nat → Bool} {c r : Nat} {B : Nat → Nat} {e : Nat} (h : (ag e && decide (B (m_fst c r e) ≠ B (m_snd c r e))) = true) : m_bs ag c r B e (m_fst c r e) < B (m_fst c r e) ∨ m_bs ag c r B e (m_snd c r e) < B (m_snd c r e) := by
  unfold m_bs
  rw [if_pos h]
  simp only [Bool.and_eq_true, decide_eq_true_eq] at h
  show (if m_fst c r e = m_fst c r e ∨ m_fst c r e = m_snd c r e then _ else _) < _ ∨ (if m_snd c r e = m_fst c r e ∨ m_snd c r e = m_snd c r e then _ else _) < _
  rw [if_pos (Or.inl rfl), if_pos (Or.inr rfl)]
  split <;> omega
theorem m_bp_le (ag : Nat → Bool) (c r : Nat) (B : Nat → Nat) : ∀ i k, m_bp ag c r B i k ≤ B k
  | 0, k => Nat.le_refl _
  | i + 1, k => Nat.le_trans (m_bs_le ag c r _ i k) (m_bp_le ag c r B i k)
theorem m_bp_lt {s : Nat → Int32} {ag : Nat → Bool} {c r : Nat} (I : MI s c r) (B : Nat → Nat) : ∀ i, i ≤ m_ed c r → m_bc ag c r B i = true → bsum (m_bp ag c r B i) (c * r) < bsum B (c * r)
  | 0, _, h => by cases h
  | i + 1, hi, h => by
    have hfs := m_fs_lt I (e := i) (by omega)
    have h' : (m_bc ag c r B i || (ag i && decide (m_bp ag c r B i (m_fst c r i) ≠ m_bp ag c r B i (m_snd c r i)))) = true := h
    have hle : bsum (m_bp ag c r B (i + 1)) (c * r) ≤ bsum (m_bp ag c r B i) (c * r) := bsum_le (m_bs_le ag c r _ i) _
    rw [Bool.or_eq_true] at h'
    rcases h' with h1 | h1
    · have := m_bp_lt I B i (by omega) h1; omega
    · have h2 : bsum (m_bp ag c r B (i + 1)) (c * r) < bsum (m_bp ag c r B i) (c * r) := by
        rcases m_bs_lt h1 with h3 | h3
        · exact bsum_lt (m_bs_le ag c r _ i) h3 _ hfs.1
        · exact bsum_lt (m_bs_le ag c r _ i) h3 _ hfs.2.1
      have := bsum_le (m_bp_le ag c r B i) (c * r)
      omega
theorem m_bp_same {ag : Nat → Bool} {c r : Nat} {B : Nat → Nat} : ∀ {i}, m_bc ag c r B i = false → m_bp ag c r B i = B
  | 0, _ => rfl
  | i + 1, h => by
    have h' : (m_bc ag c r B i || (ag i && decide (m_bp ag c r B i (m_fst c r i) ≠ m_bp ag c r B i (m_snd c r i)))) = false := h
    rw [Bool.or_eq_false_iff] at h'
    show m_bs ag c r (m_bp ag c r B i) i = B
    unfold m_bs
    rw [if_neg (by rw [h'.2]; decide), m_bp_same h'.1]
theorem bsum_id : ∀ n, n ≤ 36 → bsum (fun k => k) n ≤ 36 * n
  | 0, _ => Nat.le_refl _
  | n + 1, h => by have := bsum_id n (by omega); show bsum _ n + n ≤ _; omega
abbrev m_ag (s : Nat → Int32) : Nat → Bool := fun e => decide (s (4 + e) = 1)
/-- by sheets the lowest sheet of each block -/
def m_bl (s : Nat → Int32) (c r : Nat) : Nat → Nat := m_bt (m_ag s) c r 1300 (fun k => k)
theorem m_bt_t {ag : Nat → Bool} {c r N : Nat} {B : Nat → Nat} (h : m_bc ag c r B (m_ed c r) = true) : m_bt ag c r (N + 1) B = m_bt ag c r N (m_bp ag c r B (m_ed c r)) := by show (if _ then _ else _) = _; rw [if_pos h]
theorem m_bt_f {ag : Nat → Bool} {c r N : Nat} {B : Nat → Nat} (h : m_bc ag c r B (m_ed c r) = false) : m_bt ag c r (N + 1) B = B := by show (if _ then _ else _) = _; rw [if_neg (by rw [h]; decide)]
theorem fill_bs {ag : Nat → Bool} {b : Nat → Int32} {c r e x : Nat} {B : Nat → Nat} {v : Int32} (h1 : m_fst c r e < c * r) (h2 : m_snd c r e < c * r) (h : (ag e && decide (B (m_fst c r e) ≠ B (m_snd c r e))) = true) (hv : v = nI x) (hx : x = if B (m_fst c r e) < B (m_snd c r e) then B (m_fst c r e) else B (m_snd c r e)) :
    upd (upd (fill (fun k => nI (B k)) b 0 (c * r)) (m_fst c r e) v) (m_snd c r e) v = fill (fun k => nI (m_bs ag c r B e k)) b 0 (c * r) := by
  subst hv
  funext k
  unfold m_bs
  rw [if_pos h]
  by_cases hk : k = m_fst c r e ∨ k = m_snd c r e
  · have hlt : k < c * r := by rcases hk with rfl | rfl <;> assumption
    have e1 : upd (upd (fill (fun k => nI (B k)) b 0 (c * r)) (m_fst c r e) (nI x)) (m_snd c r e) (nI x) k = nI x := by
      by_cases h3 : k = m_snd c r e
      · subst h3; exact upd_in
      · rw [upd_out h3]
        rcases hk with h4 | h4
        · subst h4; exact upd_in
        · exact absurd h4 h3
    rw [e1, fill_in (by omega) hlt]
    show _ = nI (if _ then _ else _)
    rw [if_pos hk, hx]
  · rw [upd_out (fun z => hk (Or.inr z)), upd_out (fun z => hk (Or.inl z))]
    by_cases hlt : k < c * r
    · rw [fill_in (by omega) hlt, fill_in (by omega) hlt]
      show _ = nI (if _ then _ else _)
      rw [if_neg hk]
    · rw [fill_out (by omega), fill_out (by omega)]
def m_bn (s : Nat → Int32) (c r : Nat) : Nat := cnt (fun k => decide (m_bl s c r k = k)) (c * r)
def sp_release (s : Nat → Int32) (c r : Nat) (x : Int32) : SP := if isIn x (m_ed c r) then (if s (4 + tn x) = 1 then (nI (m_bn (upd s (4 + tn x) (nI 0)) c r), some (upd s (4 + tn x) (nI 0))) else (-2, none)) else (-1, none)
theorem m_bt_le (ag : Nat → Bool) (c r : Nat) : ∀ (N : Nat) (B : Nat → Nat) (k : Nat), m_bt ag c r N B k ≤ B k
  | 0, B, k => Nat.le_refl _
  | N + 1, B, k => by
    cases h : m_bc ag c r B (m_ed c r) with
    | true => rw [m_bt_t h]; exact Nat.le_trans (m_bt_le ag c r N _ k) (m_bp_le ag c r B _ k)
    | false => rw [m_bt_f h]; exact Nat.le_refl _
theorem m_bl_le (s : Nat → Int32) (c r k : Nat) : m_bl s c r k ≤ k := m_bt_le _ _ _ _ _ _
