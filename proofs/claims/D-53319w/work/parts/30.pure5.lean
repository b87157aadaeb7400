/-! Reading and settling. -/
theorem MV.item {s : Nat → Int32} (V : MV s) {u : Nat → Nat} {m j k : Nat} (hk : k < 36) (h : t_ok u m j ≠ 0) : MV (upd s (ix k (t_pl u j)) (nI (t_vl u m j))) ∧ t_pl u j < 40 ∧ t_vl u m j ≤ 10 := by
  have h1 := t_ok_sd h
  have hp : t_pl u j < 40 := by unfold t_pl; omega
  have hv : t_vl u m j ≤ 10 := by
    unfold t_vl
    split
    · omega
    · rename_i h2; have := h1.2.2.2.2 h2; omega
  exact ⟨V.put1 hk hp hv, hp, hv⟩
theorem t_ft_ok {u : Nat → Nat} {m : Nat} (hm : m ≤ 100) : ∀ {N j}, j < m → t_ft u m (N + 1) j = -4 → t_ok u m j ≠ 0 ∧ t_ft u m N (j + t_ok u m j) = -4 := by
  intro N j hj h
  have h' : (if j < m then (if t_ok u m j = 0 then nI (j + t_fl u m j) else t_ft u m N (j + t_ok u m j)) else -4) = -4 := h
  rw [if_pos hj] at h'
  by_cases z : t_ok u m j = 0
  · rw [if_pos z] at h'
    have := t_fl_le u m j
    exact absurd h' (nI_ne_neg (by omega))
  · rw [if_neg z] at h'; exact ⟨z, h'⟩
theorem t_ap_lo {s : Nat → Int32} {k x : Nat} (h : x < 64) : ∀ (l : List (Nat × Nat)), t_ap s k l x = s x := by
  intro l
  induction l generalizing s with
  | nil => rfl
  | cons it l ih => show t_ap (upd s (ix k it.1) (nI it.2)) k l x = s x; rw [ih, upd_lo h]
theorem t_ap_far {s : Nat → Int32} {k x : Nat} (hk : k < 36) (h : 1972 ≤ x) : ∀ (l : List (Nat × Nat)), (∀ it ∈ l, it.1 < 40) → t_ap s k l x = s x := by
  intro l
  induction l generalizing s with
  | nil => intro _; rfl
  | cons it l ih =>
    intro hl
    show t_ap (upd s (ix k it.1) (nI it.2)) k l x = s x
    have h1 := hl it List.mem_cons_self
    rw [ih (fun z hz => hl z (List.mem_cons_of_mem _ hz)), upd_far hk (by omega) h]
theorem t_ls_in {u : Nat → Nat} {m : Nat} (hm : m ≤ 100) : ∀ {N j}, j ≤ m → t_ft u m N j = -4 → ∀ it ∈ t_ls u m N j, it.1 < 40 ∧ it.2 ≤ 10 := by
  intro N
  induction N with
  | zero => intro j _ _ it hit; cases hit
  | succ N ih =>
    intro j hj hf it hit
    have hit' : it ∈ (if j < m then (t_pl u j, t_vl u m j) :: t_ls u m N (j + t_ok u m j) else []) := hit
    by_cases hlt : j < m
    · rw [if_pos hlt] at hit'
      obtain ⟨h1, h2⟩ := t_ft_ok hm hlt hf
      have h3 := t_ok_sd h1
      rcases List.mem_cons.mp hit' with e | e
      · subst e
        refine ⟨by show t_pl u j < 40; unfold t_pl; omega, ?_⟩
        show t_vl u m j ≤ 10
        unfold t_vl
        split
        · omega
        · rename_i h4; have := h3.2.2.2.2 h4; omega
      · exact ih (t_ok_in h1).2 h2 it e
    · rw [if_neg hlt] at hit'; cases hit'
theorem MV.ap {s : Nat → Int32} {k : Nat} (hk : k < 36) : ∀ (l : List (Nat × Nat)), MV s → (∀ it ∈ l, it.1 < 40 ∧ it.2 ≤ 10) → MV (t_ap s k l) := by
  intro l
  induction l generalizing s with
  | nil => intro V _; exact V
  | cons it l ih =>
    intro V hl
    have h1 := hl it List.mem_cons_self
    exact ih (V.put1 hk h1.1 h1.2) (fun z hz => hl z (List.mem_cons_of_mem _ hz))
theorem t_ls_len {u : Nat → Nat} {m : Nat} : ∀ {N j}, (t_ls u m N j).length ≤ N := by
  intro N
  induction N with
  | zero => intro j; exact Nat.le_refl _
  | succ N ih =>
    intro j
    show (if j < m then (t_pl u j, t_vl u m j) :: t_ls u m N (j + t_ok u m j) else []).length ≤ _
    split
    · rw [List.length_cons]; have := @ih (j + t_ok u m j); omega
    · exact Nat.zero_le _
theorem t_ls_c {u : Nat → Nat} {m N j : Nat} (h : j < m) : t_ls u m (N + 1) j = (t_pl u j, t_vl u m j) :: t_ls u m N (j + t_ok u m j) := by show (if _ then _ else _) = _; rw [if_pos h]
theorem t_ls_n {u : Nat → Nat} {m N j : Nat} (h : ¬ j < m) : t_ls u m (N + 1) j = [] := by show (if _ then _ else _) = _; rw [if_neg h]
theorem m_sn_t {ch : Nat} (h : t_sd ch < 4) : m_sn ch = nI (t_sd ch) := by unfold m_sn; rw [if_neg (by omega)]
theorem nI_m48 {x : Nat} (h : 48 ≤ x) : nI x - nI 48 = nI (x - 48) := pk_sub h
/-- settling: from the first sheet of the edge (f) or from the second -/
def st_o (c r e : Nat) (f : Bool) : Nat := if f then m_snd c r e else m_fst c r e
def st_d (c r e : Nat) (f : Bool) : Nat := if f then m_op (m_sd c r e) else m_sd c r e
def st_m (s : Nat → Int32) (c r e : Nat) (f : Bool) (p : Nat) : Nat := if f then m_fm s c r e p else m_sm s c r e p
def st_S (s : Nat → Int32) (c r e : Nat) (f : Bool) (p : Nat) : Int32 := m_sf s (st_o c r e f) (sv s (ix (st_o c r e f) (10 * st_d c r e f + p))) (st_m s c r e f p)
abbrev st_b (c r e : Nat) (f : Bool) : Nat := 64 + 53 * st_o c r e f + 10 * st_d c r e f
def st_s (s : Nat → Int32) (c r e : Nat) (f : Bool) (p : Nat) : Nat → Int32 := fill (fun x => st_S s c r e f (x - st_b c r e f)) s (st_b c r e f) (st_b c r e f + p)
def st_c (s : Nat → Int32) (c r e : Nat) (f : Bool) (p : Nat) : Bool := decide (st_S s c r e f p ≠ s (ix (st_o c r e f) (10 * st_d c r e f + p)))
def st_n (s : Nat → Int32) (c r e : Nat) (f : Bool) (p : Nat) : Nat := cnt (st_c s c r e f) p
def st_k (s : Nat → Int32) (c r e : Nat) (f : Bool) : Bool := allb (fun p => decide (st_S s c r e f p ≠ -4)) 10
def sp_settle (s : Nat → Int32) (c r : Nat) (x y : Int32) : SP := if isIn x (m_ed c r) && (decide (y = nI (m_fst c r (tn x))) || decide (y = nI (m_snd c r (tn x)))) then
    (if st_k s c r (tn x) (decide (y = nI (m_fst c r (tn x)))) then (nI (st_n s c r (tn x) (decide (y = nI (m_fst c r (tn x)))) 10), some (if 0 < st_n s c r (tn x) (decide (y = nI (m_fst c r (tn x)))) 10 then rev (st_s s c r (tn x) (decide (y = nI (m_fst c r (tn x)))) 10) (st_o c r (tn x) (decide (y = nI (m_fst c r (tn x))))) else st_s s c r (tn x) (decide (y = nI (m_fst c r (tn x)))) 10)) else (-2, none)) else (-1, none)
theorem m_fd_ex {s : Nat → Int32} {k m : Nat} : ∀ {N j}, m_fd s k m N j = -4 ∨ ∃ v, j ≤ v ∧ v < j + N ∧ m_fd s k m N j = nI v ∧ sv s (ix k (40 + v)) = m := by
  intro N
  induction N with
  | zero => intro j; exact Or.inl rfl
  | succ N ih =>
    intro j
    show (if sv s (ix k (40 + j)) = m then nI j else m_fd s k m N (j + 1)) = -4 ∨ ∃ v, j ≤ v ∧ v < j + (N + 1) ∧ (if sv s (ix k (40 + j)) = m then nI j else m_fd s k m N (j + 1)) = nI v ∧ _
    by_cases h : sv s (ix k (40 + j)) = m
    · rw [if_pos h]; exact Or.inr ⟨j, by omega, by omega, rfl, h⟩
    · rw [if_neg h]
      rcases @ih (j + 1) with h1 | ⟨v, h1, h2, h3, h4⟩
      · exact Or.inl h1
      · exact Or.inr ⟨v, by omega, by omega, h3, h4⟩
theorem m_sf_ex {s : Nat → Int32} {k v m : Nat} (hv : v ≤ 10) (h : m_sf s k v m ≠ -4) : ∃ z, z ≤ 10 ∧ m_sf s k v m = nI z := by
  unfold m_sf at h ⊢
  by_cases h1 : m = 10
  · rw [if_pos h1]; exact ⟨10, by omega, rfl⟩
  · rw [if_neg h1] at h ⊢
    by_cases h2 : v ≠ 10 ∧ sv s (ix k (40 + v)) = m
    · rw [if_pos h2]; exact ⟨v, hv, rfl⟩
    · rw [if_neg h2] at h ⊢
      rcases @m_fd_ex s k m 10 0 with h3 | ⟨z, h3, h4, h5, -⟩
      · exact absurd h3 h
      · exact ⟨z, by omega, h5⟩
