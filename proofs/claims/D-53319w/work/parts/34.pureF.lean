/-! Floats: which results are numbers. Out of the definitions alone. -/
theorem fl_near (x d : Nat) : x / d ≤ FP.Core.nearest x d ∧ FP.Core.nearest x d ≤ x / d + 1 := by
  unfold FP.Core.nearest
  split
  · omega
  · split <;> omega
/-- a rounded magnitude with P digits -/
theorem fl_set (f : FP.Core.Fmt) (s : Bool) {c : Nat} {q : Int} (hp : 1 ≤ f.p) (h1 : 2 ^ (f.p - 1) ≤ c) (h2 : c ≤ 2 ^ f.p) (h3 : q + 1 ≤ f.qmax) :
    ∃ (c' : Nat) (q' : Int), FP.Core.settle f s c q = .fin s c' q' ∧ 2 ^ (f.p - 1) ≤ c' ∧ c' < 2 ^ f.p ∧ q ≤ q' ∧ q' ≤ q + 1 := by
  have e : 2 ^ f.p = 2 * 2 ^ (f.p - 1) := by
    obtain ⟨k, hk⟩ : ∃ k, f.p = k + 1 := ⟨f.p - 1, by omega⟩
    rw [hk, Nat.add_sub_cancel, Nat.pow_succ]; omega
  have hpos : 0 < 2 ^ (f.p - 1) := Nat.two_pow_pos _
  unfold FP.Core.settle FP.Core.bound
  by_cases hc : c < 2 ^ f.p
  · rw [if_pos hc, if_pos (by omega)]
    exact ⟨c, q, rfl, h1, hc, by omega, by omega⟩
  · rw [if_neg hc, if_pos h3]
    exact ⟨f.tails, q + 1, rfl, Nat.le_refl _, by show 2 ^ (f.p - 1) < _; omega, by omega, by omega⟩
theorem fl_lead1 {N : Nat} (hN : 0 < N) : FP.Core.leading N 1 = (N.log2 : Int) := by
  have h1 : 2 ^ N.log2 ≤ N := Nat.log2_self_le (by omega)
  unfold FP.Core.leading
  dsimp only
  rw [show (1 : Nat).log2 = 0 by decide]
  rw [if_pos]
  · omega
  · rw [show ((N.log2 : Int) - ((0 : Nat) : Int)).toNat = N.log2 by omega, show (-((N.log2 : Int) - ((0 : Nat) : Int))).toNat = 0 by omega]
    omega
theorem fl_rr1 (f : FP.Core.Fmt) (s : Bool) {N : Nat} {e : Int} (hN : 0 < N) (hp : 1 ≤ f.p) (h1 : f.qmin ≤ (N.log2 : Int) + e - ((f.p : Int) - 1)) (h2 : (N.log2 : Int) + e - ((f.p : Int) - 1) + 1 ≤ f.qmax) :
    ∃ (c : Nat) (q : Int), FP.Core.roundRatio f s N 1 e = .fin s c q ∧ 2 ^ (f.p - 1) ≤ c ∧ c < 2 ^ f.p ∧ (N.log2 : Int) + e - ((f.p : Int) - 1) ≤ q ∧ q ≤ (N.log2 : Int) + e - ((f.p : Int) - 1) + 1 := by
  have a1 : 2 ^ N.log2 ≤ N := Nat.log2_self_le (by omega)
  have a2 : N < 2 ^ (N.log2 + 1) := Nat.lt_log2_self
  unfold FP.Core.roundRatio
  rw [if_neg (by omega)]
  have hq : FP.Core.quantum f N 1 e = (N.log2 : Int) + e - ((f.p : Int) - 1) := by
    unfold FP.Core.quantum; rw [fl_lead1 hN]; omega
  rw [hq]
  unfold FP.Core.roundAt
  generalize N.log2 = L at a1 a2 h1 h2
  refine fl_set f s hp ?_ ?_ h2
  all_goals
    unfold FP.Core.unitsNum FP.Core.unitsDen
    rw [show (e - ((L : Int) + e - ((f.p : Int) - 1))).toNat = f.p - 1 - L by omega, show ((L : Int) + e - ((f.p : Int) - 1) - e).toNat = L - (f.p - 1) by omega, Nat.one_mul]
    obtain ⟨P, hP⟩ : ∃ P, f.p = P + 1 := ⟨f.p - 1, by omega⟩
    rw [hP, Nat.add_sub_cancel]
    have hn := fl_near (N * 2 ^ (P - L)) (2 ^ (L - P))
    have hd : 2 ^ P ≤ N * 2 ^ (P - L) / 2 ^ (L - P) ∧ N * 2 ^ (P - L) / 2 ^ (L - P) < 2 ^ (P + 1) := by
      by_cases hL : L ≤ P
      · rw [show L - P = 0 by omega, Nat.pow_zero, Nat.div_one]
        have e1 : 2 ^ P = 2 ^ L * 2 ^ (P - L) := by rw [← Nat.pow_add, show L + (P - L) = P by omega]
        have e2 : 2 ^ (P + 1) = 2 ^ (L + 1) * 2 ^ (P - L) := by rw [← Nat.pow_add, show L + 1 + (P - L) = P + 1 by omega]
        rw [e1, e2]
        exact ⟨Nat.mul_le_mul_right _ a1, Nat.mul_lt_mul_of_pos_right a2 (Nat.two_pow_pos _)⟩
      · rw [show P - L = 0 by omega, Nat.pow_zero, Nat.mul_one]
        have e1 : 2 ^ L = 2 ^ P * 2 ^ (L - P) := by rw [← Nat.pow_add, show P + (L - P) = L by omega]
        have e2 : 2 ^ (L + 1) = 2 ^ (P + 1) * 2 ^ (L - P) := by rw [← Nat.pow_add, show P + 1 + (L - P) = L + 1 by omega]
        exact ⟨(Nat.le_div_iff_mul_le (Nat.two_pow_pos _)).mpr (by rw [← e1]; exact a1), (Nat.div_lt_iff_lt_mul (Nat.two_pow_pos _)).mpr (by rw [← e2]; exact a2)⟩
    omega
theorem fl_b32 : FP.Core.b32.qmin = -149 ∧ FP.Core.b32.qmax = 104 ∧ FP.Core.b32.p = 24 := by decide
theorem fl_b64 : FP.Core.b64.qmin = -1074 ∧ FP.Core.b64.qmax = 971 ∧ FP.Core.b64.p = 53 := by decide
theorem fl_log {c : Nat} (h1 : 8388608 ≤ c) (h2 : c < 16777216) : c.log2 = 23 := by
  have a1 : 2 ^ c.log2 ≤ c := Nat.log2_self_le (by omega)
  have a2 : c < 2 ^ (c.log2 + 1) := Nat.lt_log2_self
  have b1 : c.log2 < 24 := Nat.lt_of_not_le fun h => by
    have := Nat.pow_le_pow_right (show 2 > 0 by decide) h
    omega
  have b2 : 22 < c.log2 := Nat.lt_of_not_le fun h => by
    have := Nat.pow_le_pow_right (show 2 > 0 by decide) (show c.log2 + 1 ≤ 23 by omega)
    omega
  omega
theorem fl_rr2 (s : Bool) {A B : Nat} {e : Int} (hA1 : 8388608 ≤ A) (hA2 : A < 16777216) (hB1 : 8388608 ≤ B) (hB2 : B < 16777216) (h1 : -100 ≤ e) (h2 : e ≤ 100) :
    ∃ (c : Nat) (q : Int), FP.Core.roundRatio FP.Core.b32 s A B e = .fin s c q ∧ 8388608 ≤ c ∧ c < 16777216 ∧ e - 24 ≤ q ∧ q ≤ e - 22 := by
  unfold FP.Core.roundRatio
  rw [if_neg (by omega)]
  have hl : FP.Core.leading A B = if B ≤ A then 0 else -1 := by
    unfold FP.Core.leading
    dsimp only
    rw [fl_log hA1 hA2, fl_log hB1 hB2]
    show (if B * 2 ^ 0 ≤ A * 2 ^ 0 then (0 : Int) else 0 - 1) = _
    by_cases hBA : B ≤ A
    · rw [if_pos (show B * 1 ≤ A * 1 by omega), if_pos hBA]
    · rw [if_neg (show ¬ B * 1 ≤ A * 1 by omega), if_neg hBA]; rfl
  have hq : FP.Core.quantum FP.Core.b32 A B e = if B ≤ A then e - 23 else e - 24 := by
    unfold FP.Core.quantum
    rw [hl, fl_b32.1, fl_b32.2.2]
    split <;> omega
  rw [hq]
  by_cases hBA : B ≤ A
  · rw [if_pos hBA]
    unfold FP.Core.roundAt
    have hd : 8388608 ≤ A * 8388608 / B ∧ A * 8388608 / B < 16777216 :=
      ⟨(Nat.le_div_iff_mul_le (by omega)).mpr (by omega), (Nat.div_lt_iff_lt_mul (by omega)).mpr (by omega)⟩
    have hn := fl_near (A * 8388608) B
    obtain ⟨c, q, g1, g2, g3, g4, g5⟩ := fl_set FP.Core.b32 s (c := FP.Core.nearest (FP.Core.unitsNum A e (e - 23)) (FP.Core.unitsDen B e (e - 23))) (q := e - 23) (by decide) (by
      unfold FP.Core.unitsNum FP.Core.unitsDen
      rw [show (e - (e - 23)).toNat = 23 by omega, show (e - 23 - e).toNat = 0 by omega, Nat.pow_zero, Nat.mul_one]
      show 8388608 ≤ FP.Core.nearest (A * 8388608) B
      omega) (by
      unfold FP.Core.unitsNum FP.Core.unitsDen
      rw [show (e - (e - 23)).toNat = 23 by omega, show (e - 23 - e).toNat = 0 by omega, Nat.pow_zero, Nat.mul_one]
      show FP.Core.nearest (A * 8388608) B ≤ 16777216
      omega) (by rw [fl_b32.2.1]; omega)
    exact ⟨c, q, g1, g2, g3, by omega, by omega⟩
  · rw [if_neg hBA]
    unfold FP.Core.roundAt
    have hd : 8388608 ≤ A * 16777216 / B ∧ A * 16777216 / B < 16777216 :=
      ⟨(Nat.le_div_iff_mul_le (by omega)).mpr (by omega), (Nat.div_lt_iff_lt_mul (by omega)).mpr (by omega)⟩
    have hn := fl_near (A * 16777216) B
    obtain ⟨c, q, g1, g2, g3, g4, g5⟩ := fl_set FP.Core.b32 s (c := FP.Core.nearest (FP.Core.unitsNum A e (e - 24)) (FP.Core.unitsDen B e (e - 24))) (q := e - 24) (by decide) (by
      unfold FP.Core.unitsNum FP.Core.unitsDen
      rw [show (e - (e - 24)).toNat = 24 by omega, show (e - 24 - e).toNat = 0 by omega, Nat.pow_zero, Nat.mul_one]
      show 8388608 ≤ FP.Core.nearest (A * 16777216) B
      omega) (by
      unfold FP.Core.unitsNum FP.Core.unitsDen
      rw [show (e - (e - 24)).toNat = 24 by omega, show (e - 24 - e).toNat = 0 by omega, Nat.pow_zero, Nat.mul_one]
      show FP.Core.nearest (A * 16777216) B ≤ 16777216
      omega) (by rw [fl_b32.2.1]; omega)
    exact ⟨c, q, g1, g2, g3, by omega, by omega⟩
/-- what bits say -/
abbrev fd32 (x : UInt32) : FP.Core.Datum := FP.Core.decode FP.Core.b32 x.toNat
abbrev fd64 (x : UInt64) : FP.Core.Datum := FP.Core.decode FP.Core.b64 x.toNat
theorem fl_e32 {s : Bool} {c : Nat} {q : Int} (h1 : 8388608 ≤ c) (h2 : c < 16777216) (h3 : -149 ≤ q) (h4 : q ≤ 104) :
    fd32 (UInt32.ofNat (FP.Core.encode FP.Core.b32 (.fin s c q))) = .fin s c q ∧ vf_n32 (UInt32.ofNat (FP.Core.encode FP.Core.b32 (.fin s c q))) := by
  have he : FP.Core.encode FP.Core.b32 (.fin s c q) = (s.toNat * 256 + ((q + 149).toNat + 1)) * 8388608 + (c - 8388608) := by
    show (if c < 8388608 then _ else _) = _
    rw [if_neg (by omega)]
    show (s.toNat * 256 + ((q - FP.Core.b32.qmin).toNat + 1)) * 8388608 + (c - 8388608) = _
    rw [fl_b32.1]
    rfl
  have hs : s.toNat ≤ 1 := by cases s <;> decide
  have hn : (UInt32.ofNat (FP.Core.encode FP.Core.b32 (.fin s c q))).toNat = (s.toNat * 256 + ((q + 149).toNat + 1)) * 8388608 + (c - 8388608) := by
    rw [UInt32.toNat_ofNat', he]
    exact Nat.mod_eq_of_lt (by omega)
  refine ⟨?_, ?_⟩
  · unfold fd32
    rw [hn]
    unfold FP.Core.decode FP.Core.fieldE FP.Core.fieldT FP.Core.fieldS
    rw [show FP.Core.b32.tails = 8388608 by decide, show FP.Core.b32.exps = 256 by decide, fl_b32.1]
    rw [if_neg (by omega), if_neg (by omega)]
    have e1 : ((s.toNat * 256 + ((q + 149).toNat + 1)) * 8388608 + (c - 8388608)) / 8388608 / 256 % 2 = s.toNat := by omega
    have e2 : ((s.toNat * 256 + ((q + 149).toNat + 1)) * 8388608 + (c - 8388608)) / 8388608 % 256 = (q + 149).toNat + 1 := by omega
    have e3 : 8388608 + ((s.toNat * 256 + ((q + 149).toNat + 1)) * 8388608 + (c - 8388608)) % 8388608 = c := by omega
    rw [e1, e2, e3]
    have e4 : (-149 : Int) + (((q + 149).toNat + 1 : Nat) - 1) = q := by omega
    rw [e4]
    cases s <;> rfl
  · unfold vf_n32
    rw [UInt32.le_iff_toNat_le, UInt32.toNat_and, hn]
    show _ &&& (2 ^ 31 - 1) ≤ 2139095040
    rw [Nat.and_two_pow_sub_one_eq_mod]
    omega
theorem fl_e64 {s : Bool} {c : Nat} {q : Int} (h1 : 4503599627370496 ≤ c) (h2 : c < 9007199254740992) (h3 : -1074 ≤ q) (h4 : q ≤ 971) :
    fd64 (UInt64.ofNat (FP.Core.encode FP.Core.b64 (.fin s c q))) = .fin s c q ∧ vf_n64 (UInt64.ofNat (FP.Core.encode FP.Core.b64 (.fin s c q))) := by
  have he : FP.Core.encode FP.Core.b64 (.fin s c q) = (s.toNat * 2048 + ((q + 1074).toNat + 1)) * 4503599627370496 + (c - 4503599627370496) := by
    show (if c < 4503599627370496 then _ else _) = _
    rw [if_neg (by omega)]
    show (s.toNat * 2048 + ((q - FP.Core.b64.qmin).toNat + 1)) * 4503599627370496 + (c - 4503599627370496) = _
    rw [fl_b64.1]
    rfl
  have hs : s.toNat ≤ 1 := by cases s <;> decide
  have hn : (UInt64.ofNat (FP.Core.encode FP.Core.b64 (.fin s c q))).toNat = (s.toNat * 2048 + ((q + 1074).toNat + 1)) * 4503599627370496 + (c - 4503599627370496) := by
    rw [UInt64.toNat_ofNat', he]
    exact Nat.mod_eq_of_lt (by omega)
  refine ⟨?_, ?_⟩
  · unfold fd64
    rw [hn]
    unfold FP.Core.decode FP.Core.fieldE FP.Core.fieldT FP.Core.fieldS
    rw [show FP.Core.b64.tails = 4503599627370496 by decide, show FP.Core.b64.exps = 2048 by decide, fl_b64.1]
    rw [if_neg (by omega), if_neg (by omega)]
    have e1 : ((s.toNat * 2048 + ((q + 1074).toNat + 1)) * 4503599627370496 + (c - 4503599627370496)) / 4503599627370496 / 2048 % 2 = s.toNat := by omega
    have e2 : ((s.toNat * 2048 + ((q + 1074).toNat + 1)) * 4503599627370496 + (c - 4503599627370496)) / 4503599627370496 % 2048 = (q + 1074).toNat + 1 := by omega
    have e3 : 4503599627370496 + ((s.toNat * 2048 + ((q + 1074).toNat + 1)) * 4503599627370496 + (c - 4503599627370496)) % 4503599627370496 = c := by omega
    rw [e1, e2, e3]
    have e4 : (-1074 : Int) + (((q + 1074).toNat + 1 : Nat) - 1) = q := by omega
    rw [e4]
    cases s <;> rfl
  · unfold vf_n64
    rw [UInt64.le_iff_toNat_le, UInt64.toNat_and, hn]
    show _ &&& (2 ^ 63 - 1) ≤ 9218868437227405312
    rw [Nat.and_two_pow_sub_one_eq_mod]
    omega
/-- a float that is a number with 24 digits, of middling size -/
def fN (x : UInt32) (a b : Int) : Prop := ∃ (c : Nat) (q : Int), fd32 x = .fin false c q ∧ 8388608 ≤ c ∧ c < 16777216 ∧ a ≤ q ∧ q ≤ b
theorem fl_i2f {n : Nat} (h1 : 1 ≤ n) (h2 : n ≤ 10000000) : fN (FP.i2f (nI n)) (-23) 1 := by
  have b : n.log2 < 24 := Nat.lt_of_not_le fun h => by
    have a1 : 2 ^ n.log2 ≤ n := Nat.log2_self_le (by omega)
    have := Nat.pow_le_pow_right (show 2 > 0 by decide) h
    omega
  obtain ⟨c, q, g1, g2, g3, g4, g5⟩ := fl_rr1 FP.Core.b32 false (N := n) (e := 0) (by omega) (by decide) (by rw [fl_b32.1, fl_b32.2.2]; omega) (by rw [fl_b32.2.1, fl_b32.2.2]; omega)
  rw [fl_b32.2.2] at g2 g3 g4 g5
  have e : FP.i2f (nI n) = UInt32.ofNat (FP.Core.encode FP.Core.b32 (.fin false c q)) := by
    show UInt32.ofNat (FP.Core.encode FP.Core.b32 (FP.Core.round FP.Core.b32 (.fin (decide ((nI n).toInt < 0)) (nI n).toInt.natAbs 0))) = _
    rw [nI_toInt (by omega), decide_eq_false (by omega), Int.natAbs_natCast]
    show UInt32.ofNat (FP.Core.encode FP.Core.b32 (FP.Core.roundRatio FP.Core.b32 false n 1 0)) = _
    rw [g1]
  exact ⟨c, q, by rw [e]; exact (fl_e32 g2 g3 (by omega) (by omega)).1, g2, g3, by omega, by omega⟩
theorem fl_div {x y : UInt32} {a b a' b' : Int} (hx : fN x a b) (hy : fN y a' b') (h1 : -60 ≤ a - b') (h2 : b - a' ≤ 60) : fN (FP.fdiv x y) (a - b' - 24) (b - a' - 22) ∧ vf_n32 (FP.fdiv x y) := by
  obtain ⟨c, q, x1, x2, x3, x4, x5⟩ := hx
  obtain ⟨d, r, y1, y2, y3, y4, y5⟩ := hy
  obtain ⟨c', q', g1, g2, g3, g4, g5⟩ := fl_rr2 false (A := c) (B := d) (e := q - r) x2 x3 y2 y3 (by omega) (by omega)
  have e : FP.fdiv x y = UInt32.ofNat (FP.Core.encode FP.Core.b32 (.fin false c' q')) := by
    show UInt32.ofNat (FP.Core.encode FP.Core.b32 (FP.Core.quotient FP.Core.b32 (fd32 x) (fd32 y))) = _
    rw [x1, y1]
    show UInt32.ofNat (FP.Core.encode FP.Core.b32 (if d = 0 then _ else FP.Core.roundRatio FP.Core.b32 false c d (q - r))) = _
    rw [if_neg (by omega), g1]
  have hE := fl_e32 (s := false) g2 g3 (show -149 ≤ q' by omega) (show q' ≤ 104 by omega)
  rw [e]
  exact ⟨⟨c', q', hE.1, g2, g3, by omega, by omega⟩, hE.2⟩
/-- a sheet's scale -/
def f_sc (x : Int32) : UInt32 := FP.fdiv (FP.i2f x) 1148846080
theorem fl_1000 : fN 1148846080 (-14) (-14) := ⟨16384000, -14, by decide +kernel, by decide, by decide, by decide, by decide⟩
theorem fl_sc {n : Nat} (h1 : 1 ≤ n) (h2 : n ≤ 1000000) : fN (f_sc (nI n)) (-33) (-7) ∧ vf_n32 (f_sc (nI n)) := by
  have h := fl_div (fl_i2f h1 (by omega)) fl_1000 (by omega) (by omega)
  exact h
def f_rt (x y : Int32) : UInt32 := FP.fdiv (f_sc x) (f_sc y)
theorem fl_rt {n k : Nat} (h1 : 1 ≤ n) (h2 : n ≤ 1000000) (h3 : 1 ≤ k) (h4 : k ≤ 1000000) : fN (f_rt (nI n) (nI k)) (-50) 4 ∧ vf_n32 (f_rt (nI n) (nI k)) := by
  have h := fl_div (fl_sc h1 h2).1 (fl_sc h3 h4).1 (by omega) (by omega)
  exact h
theorem fl_f2d {x : UInt32} {a b : Int} (hx : fN x a b) (h1 : -60 ≤ a) (h2 : b ≤ 60) : vf_n64 (FP.f2d x) ∧ ∃ (c : Nat) (q : Int), fd64 (FP.f2d x) = .fin false c q ∧ 0 < c ∧ c < 9007199254740992 ∧ -90 ≤ q ∧ q ≤ 40 := by
  obtain ⟨c, q, x1, x2, x3, x4, x5⟩ := hx
  have hl := fl_log x2 x3
  obtain ⟨c', q', g1, g2, g3, g4, g5⟩ := fl_rr1 FP.Core.b64 false (N := c) (e := q) (by omega) (by decide) (by rw [fl_b64.1, fl_b64.2.2, hl]; omega) (by rw [fl_b64.2.1, fl_b64.2.2, hl]; omega)
  rw [fl_b64.2.2, hl] at g4 g5
  rw [fl_b64.2.2] at g2 g3
  have hn : FP.Core.fIsNaN x = false := by
    show decide (fd32 x = .nan) = false
    rw [x1]; exact decide_eq_false (by simp)
  have e : FP.f2d x = UInt64.ofNat (FP.Core.encode FP.Core.b64 (.fin false c' q')) := by
    unfold FP.f2d
    rw [hn, if_neg (by decide)]
    show UInt64.ofNat (FP.Core.encode FP.Core.b64 (FP.Core.round FP.Core.b64 (fd32 x))) = _
    rw [x1]
    show UInt64.ofNat (FP.Core.encode FP.Core.b64 (FP.Core.roundRatio FP.Core.b64 false c 1 q)) = _
    rw [g1]
  have hE := fl_e64 (s := false) g2 g3 (show -1074 ≤ q' by omega) (show q' ≤ 971 by omega)
  rw [e]
  exact ⟨hE.2, c', q', hE.1, by omega, g3, by omega, by omega⟩
theorem fl_zero64 (s : Bool) : vf_n64 (UInt64.ofNat (FP.Core.encode FP.Core.b64 (.fin s 0 FP.Core.b64.qmin))) := by unfold vf_n64; cases s <;> decide +kernel
theorem fl_zero32 (s : Bool) : vf_n32 (UInt32.ofNat (FP.Core.encode FP.Core.b32 (.fin s 0 FP.Core.b32.qmin))) := by unfold vf_n32; cases s <;> decide +kernel
theorem fl_d1 : FP.Core.decode FP.Core.b64 FP.dconst1.toNat = .fin false 4503599627370496 (-52) := by decide +kernel
theorem fl_dsub {x : UInt64} {c : Nat} {q : Int} (hx : fd64 x = .fin false c q) (hc : c < 9007199254740992) (h1 : -90 ≤ q) (h2 : q ≤ 40) : vf_n64 (FP.dsub x FP.dconst1) := by
  have e : FP.dsub x FP.dconst1 = UInt64.ofNat (FP.Core.encode FP.Core.b64 (FP.Core.round FP.Core.b64 (FP.Core.exactSum (.fin false c q) (.fin true 4503599627370496 (-52))))) := by
    show UInt64.ofNat (FP.Core.encode FP.Core.b64 (FP.Core.round FP.Core.b64 (FP.Core.exactSum (fd64 x) (FP.Core.negate (FP.Core.decode FP.Core.b64 FP.dconst1.toNat))))) = _
    rw [hx, fl_d1]; rfl
  rw [e]
  show vf_n64 (UInt64.ofNat (FP.Core.encode FP.Core.b64 (FP.Core.roundRatio FP.Core.b64 _ (FP.Core.sumUnits false c q true 4503599627370496 (-52) (min q (-52))).natAbs 1 (min q (-52)))))
  have hN : (FP.Core.sumUnits false c q true 4503599627370496 (-52) (min q (-52))).natAbs < 2 ^ 160 := by
    unfold FP.Core.sumUnits FP.Core.signed FP.Core.inUnits
    have p1 : 2 ^ (q - min q (-52)).toNat ≤ 2 ^ 92 := Nat.pow_le_pow_right (by decide) (by omega)
    have p2 : 2 ^ ((-52 : Int) - min q (-52)).toNat ≤ 2 ^ 92 := Nat.pow_le_pow_right (by decide) (by omega)
    have m1 : c * 2 ^ (q - min q (-52)).toNat ≤ 9007199254740992 * 2 ^ 92 := Nat.mul_le_mul (by omega) p1
    have m2 : 4503599627370496 * 2 ^ ((-52 : Int) - min q (-52)).toNat ≤ 4503599627370496 * 2 ^ 92 := Nat.mul_le_mul (Nat.le_refl _) p2
    generalize c * 2 ^ (q - min q (-52)).toNat = u at m1
    generalize 4503599627370496 * 2 ^ ((-52 : Int) - min q (-52)).toNat = v at m2
    simp only [Bool.false_eq_true, if_false, if_true]
    omega
  generalize (FP.Core.sumUnits false c q true 4503599627370496 (-52) (min q (-52))).natAbs = N at hN
  generalize FP.Core.sumSign _ _ _ = s
  by_cases hz : N = 0
  · subst hz
    show vf_n64 (UInt64.ofNat (FP.Core.encode FP.Core.b64 (.fin s 0 FP.Core.b64.qmin)))
    exact fl_zero64 s
  · have b : N.log2 < 160 := Nat.lt_of_not_le fun h => by
      have a1 : 2 ^ N.log2 ≤ N := Nat.log2_self_le (by omega)
      have := Nat.pow_le_pow_right (show 2 > 0 by decide) h
      omega
    obtain ⟨c', q', g1, g2, g3, g4, g5⟩ := fl_rr1 FP.Core.b64 s (N := N) (e := min q (-52)) (by omega) (by decide) (by rw [fl_b64.1, fl_b64.2.2]; omega) (by rw [fl_b64.2.1, fl_b64.2.2]; omega)
    rw [fl_b64.2.2] at g2 g3 g4 g5
    rw [g1]
    exact (fl_e64 g2 g3 (by omega) (by omega)).2
theorem fl_tolb : (List.range 1001).all (fun t => decide (FP.ddiv (FP.i2d (nI t)) 4652007308841189376 &&& 0x7fffffffffffffff ≤ 0x7ff0000000000000)) = true := by decide +kernel
theorem fl_tol {t : Nat} (h : t ≤ 1000) : vf_n64 (FP.ddiv (FP.i2d (nI t)) 4652007308841189376) := by unfold vf_n64; exact of_decide_eq_true (all_lt fl_tolb (show t < 1001 by omega))
theorem fl_mul {u : Nat} (hu : u ≤ 10000000) {y : UInt32} {a b : Int} (hy : fN y a b) (h1 : -60 ≤ a) (h2 : b ≤ 30) : vf_n32 (FP.fmul (FP.i2f (nI u)) y) := by
  obtain ⟨d, r, y1, y2, y3, y4, y5⟩ := hy
  by_cases hz : u = 0
  · subst hz
    have e0 : fd32 (FP.i2f (nI 0)) = .fin false 0 (-149) := by decide +kernel
    have e : FP.fmul (FP.i2f (nI 0)) y = UInt32.ofNat (FP.Core.encode FP.Core.b32 (.fin false 0 FP.Core.b32.qmin)) := by
      show UInt32.ofNat (FP.Core.encode FP.Core.b32 (FP.Core.round FP.Core.b32 (FP.Core.exactProduct (fd32 (FP.i2f (nI 0))) (fd32 y)))) = _
      rw [e0, y1]
      show UInt32.ofNat (FP.Core.encode FP.Core.b32 (FP.Core.roundRatio FP.Core.b32 false (0 * d) 1 (-149 + r))) = _
      rw [Nat.zero_mul]
      rfl
    rw [e]
    exact fl_zero32 false
  · obtain ⟨c, q, x1, x2, x3, x4, x5⟩ := fl_i2f (show 1 ≤ u by omega) hu
    have m1 : 8388608 * 8388608 ≤ c * d := Nat.mul_le_mul x2 y2
    have m2 : c * d < 16777216 * 16777216 := Nat.mul_lt_mul_of_lt_of_lt x3 y3
    have b : (c * d).log2 < 48 := Nat.lt_of_not_le fun h => by
      have a1 : 2 ^ (c * d).log2 ≤ c * d := Nat.log2_self_le (by omega)
      have := Nat.pow_le_pow_right (show 2 > 0 by decide) h
      omega
    obtain ⟨c', q', g1, g2, g3, g4, g5⟩ := fl_rr1 FP.Core.b32 false (N := c * d) (e := q + r) (by omega) (by decide) (by rw [fl_b32.1, fl_b32.2.2]; omega) (by rw [fl_b32.2.1, fl_b32.2.2]; omega)
    rw [fl_b32.2.2] at g2 g3 g4 g5
    have e : FP.fmul (FP.i2f (nI u)) y = UInt32.ofNat (FP.Core.encode FP.Core.b32 (.fin false c' q')) := by
      show UInt32.ofNat (FP.Core.encode FP.Core.b32 (FP.Core.round FP.Core.b32 (FP.Core.exactProduct (fd32 (FP.i2f (nI u))) (fd32 y)))) = _
      rw [x1, y1]
      show UInt32.ofNat (FP.Core.encode FP.Core.b32 (FP.Core.roundRatio FP.Core.b32 false (c * d) 1 (q + r))) = _
      rw [g1]
    rw [e]
    exact (fl_e32 g2 g3 (by omega) (by omega)).2
theorem fl_one : FP.fconst1 = f_sc (nI 1000) := by decide +kernel
