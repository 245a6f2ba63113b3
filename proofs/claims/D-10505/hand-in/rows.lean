section
/-! bits of an Int32 (began as a family of laws/BITS.to-paste) -/
def bt (x : Int32) (i : Nat) : Bool := x.toBitVec.getLsbD i
theorem b_ext {x y : Int32} (h : ∀ i, i < 32 → bt x i = bt y i) : x = y := Int32.toBitVec_inj.mp (BitVec.eq_of_getLsbD_eq (fun i hi => h i hi))
theorem b_or (x y : Int32) (i : Nat) : bt (x ||| y) i = (bt x i || bt y i) := by unfold bt; rw [Int32.toBitVec_or, BitVec.getLsbD_or]
theorem b_and (x y : Int32) (i : Nat) : bt (x &&& y) i = (bt x i && bt y i) := by unfold bt; rw [Int32.toBitVec_and, BitVec.getLsbD_and]
theorem b_xor (x y : Int32) (i : Nat) : bt (x ^^^ y) i = (bt x i ^^ bt y i) := by unfold bt; rw [Int32.toBitVec_xor, BitVec.getLsbD_xor]
theorem b_big {x : Int32} {i : Nat} (h : 32 ≤ i) : bt x i = false := BitVec.getLsbD_of_ge _ _ h
theorem b_255 (i : Nat) : bt 255 i = decide (i < 8) := by
  rcases Nat.lt_or_ge i 32 with h | h
  · exact (by decide +kernel : ∀ i, i < 32 → bt 255 i = decide (i < 8)) i h
  · rw [b_big h, decide_eq_false (by omega)]
theorem b_65535 (i : Nat) : bt 65535 i = decide (i < 16) := by
  rcases Nat.lt_or_ge i 32 with h | h
  · exact (by decide +kernel : ∀ i, i < 32 → bt 65535 i = decide (i < 16)) i h
  · rw [b_big h, decide_eq_false (by omega)]
theorem b_m1 : ∀ i, i < 32 → bt (-1) i = true := by decide +kernel
theorem b_0 (i : Nat) : bt 0 i = false := BitVec.getLsbD_zero
theorem s_l : ∀ n, n < 32 → ((nI n &&& 31).toBitVec.smod 32).toNat = n := by decide +kernel
theorem s_u : ∀ n, n < 32 → (((nI n).toUInt32 &&& Int32.toUInt32 31).toBitVec % 32).toNat = n := by decide +kernel
theorem b_shl (n : Nat) (hn : n < 32) (x : Int32) {i : Nat} (hi : i < 32) : bt (x <<< (nI n &&& 31)) i = (decide (n ≤ i) && bt x (i - n)) := by
  unfold bt
  rw [Int32.toBitVec_shiftLeft]
  show (x.toBitVec <<< ((nI n &&& 31).toBitVec.smod 32).toNat).getLsbD i = _
  rw [s_l n hn, BitVec.getLsbD_shiftLeft]
  rcases Nat.lt_or_ge i n with h | h
  · simp [h, Nat.not_le.mpr h]
  · simp [hi, h, Nat.not_lt.mpr h]
theorem b_ushr (n : Nat) (hn : n < 32) (x : Int32) (i : Nat) : bt ((x.toUInt32 >>> ((nI n).toUInt32 &&& Int32.toUInt32 31)).toInt32) i = bt x (n + i) := by
  show (x.toUInt32 >>> ((nI n).toUInt32 &&& Int32.toUInt32 31)).toBitVec.getLsbD i = x.toUInt32.toBitVec.getLsbD (n + i)
  rw [UInt32.toBitVec_shiftRight]
  show (x.toUInt32.toBitVec >>> (((nI n).toUInt32 &&& Int32.toUInt32 31).toBitVec % 32).toNat).getLsbD i = _
  rw [s_u n hn, BitVec.getLsbD_ushiftRight]
theorem b_sshr (n : Nat) (hn : n < 32) (x : Int32) {i : Nat} (hi : i < 32) : bt (x >>> (nI n &&& 31)) i = if n + i < 32 then bt x (n + i) else bt x 31 := by
  unfold bt
  rw [Int32.toBitVec_shiftRight]
  show (x.toBitVec.sshiftRight ((nI n &&& 31).toBitVec.smod 32).toNat).getLsbD i = _
  rw [s_l n hn, BitVec.getLsbD_sshiftRight, BitVec.msb_eq_getLsbD_last]
  simp [hi]

/-! ===== xor ===== -/
theorem gb_x0 (x : Int32) : x ^^^ 0 = x := Int32.xor_zero
theorem gb_0x (x : Int32) : 0 ^^^ x = x := by rw [Int32.xor_comm]; exact Int32.xor_zero
theorem gb_xs (x : Int32) : x ^^^ x = 0 := Int32.xor_self
theorem gb_xx (x y : Int32) : x ^^^ y ^^^ y = x := by rw [Int32.xor_assoc, gb_xs, gb_x0]
theorem gb_x4 (a b c d : Int32) : (a ^^^ b) ^^^ (c ^^^ d) = (a ^^^ c) ^^^ (b ^^^ d) := by ac_rfl
/-! ===== the tables ===== -/
def gb_on (m : Nat) : Nat := m % 2 + m / 2 % 2 + m / 4 % 2 + m / 8 % 2 + m / 16 % 2
def gb_M (K : Bool) (p : Nat) : Nat := if K then p else [0, 1, 2, 4, 8, 16, 3, 5, 6, 9, 10, 12, 17, 18, 20, 24, 7, 11, 13, 14, 19, 21, 22, 25, 26, 28, 15, 23, 27, 29, 30, 31].getD p 0
def gb_P (K : Bool) (m : Nat) : Nat := if K then m else [0, 1, 2, 6, 3, 7, 8, 16, 4, 9, 10, 17, 11, 18, 19, 26, 5, 12, 13, 20, 14, 21, 22, 27, 15, 23, 24, 28, 25, 29, 30, 31].getD m 0
def gb_w (K : Bool) (m : Nat) : Nat := if K then m else 32 * gb_on m + m
theorem gb_Mlt (K : Bool) {p : Nat} (h : p < 32) : gb_M K p < 32 := (by cases K <;> decide +kernel : ∀ p, p < 32 → gb_M K p < 32) p h
theorem gb_Plt (K : Bool) {p : Nat} (h : p < 32) : gb_P K p < 32 := (by cases K <;> decide +kernel : ∀ p, p < 32 → gb_P K p < 32) p h
theorem gb_PM (K : Bool) {p : Nat} (h : p < 32) : gb_P K (gb_M K p) = p := (by cases K <;> decide +kernel : ∀ p, p < 32 → gb_P K (gb_M K p) = p) p h
theorem gb_MP (K : Bool) {p : Nat} (h : p < 32) : gb_M K (gb_P K p) = p := (by cases K <;> decide +kernel : ∀ p, p < 32 → gb_M K (gb_P K p) = p) p h
theorem gb_wM (K : Bool) {p q : Nat} (h : q < 32) (hp : p < q) : gb_w K (gb_M K p) < gb_w K (gb_M K q) := (by cases K <;> decide +kernel : ∀ q, q < 32 → ∀ p, p < q → gb_w K (gb_M K p) < gb_w K (gb_M K q)) q h p hp
theorem gb_wo (K : Bool) {a b : Nat} (ha : a < 32) (hb : b < 32) : gb_w K (a ||| b) + gb_w K (a &&& b) = gb_w K a + gb_w K b := (by cases K <;> decide +kernel : ∀ a, a < 32 → ∀ b, b < 32 → gb_w K (a ||| b) + gb_w K (a &&& b) = gb_w K a + gb_w K b) a ha b hb
theorem gb_w0 (K : Bool) : gb_w K 0 = 0 := by cases K <;> decide
theorem gb_wp (K : Bool) {a : Nat} (h : a ≠ 0) : 0 < gb_w K a := by
  unfold gb_w
  split <;> omega
theorem gb_w2 (K : Bool) {a : Nat} (h : a < 32) : gb_w K a < 200 := (by cases K <;> decide +kernel : ∀ a, a < 32 → gb_w K a < 200) a h
theorem gb_wi (K : Bool) {a b : Nat} (ha : a < 32) (hb : b < 32) (h : gb_w K a = gb_w K b) : a = b := (by cases K <;> decide +kernel : ∀ a, a < 32 → ∀ b, b < 32 → gb_w K a = gb_w K b → a = b) a ha b hb h
theorem gb_or {a b : Nat} (ha : a < 32) (hb : b < 32) : a ||| b < 32 := Nat.or_lt_two_pow (n := 5) ha hb
theorem gb_an (a : Nat) {b : Nat} (hb : b < 32) : a &&& b < 32 := Nat.and_lt_two_pow (n := 5) a hb
theorem gb_wd (K : Bool) {a b : Nat} (ha : a < 32) (hb : b < 32) (h : a &&& b = 0) : gb_w K (a ||| b) = gb_w K a + gb_w K b := by
  have t := gb_wo K ha hb
  rw [h, gb_w0] at t
  exact t
theorem gb_wle (K : Bool) {a b : Nat} (ha : a < 32) (hb : b < 32) : gb_w K (a ||| b) ≤ gb_w K a + gb_w K b := by
  have t := gb_wo K ha hb
  omega
theorem gb_wlt (K : Bool) {a b : Nat} (ha : a < 32) (hb : b < 32) (h : a &&& b ≠ 0) : gb_w K (a ||| b) < gb_w K a + gb_w K b := by
  have t := gb_wo K ha hb
  have t2 := gb_wp K h
  omega
/-- a without b -/
def gb_df (a b : Nat) : Nat := a &&& (31 ^^^ b)
theorem gb_dfl {a : Nat} (b : Nat) (h : a < 32) : gb_df a b < 32 := by unfold gb_df; exact Nat.lt_of_le_of_lt Nat.and_le_left h
theorem gb_df0 {a b : Nat} (ha : a < 32) (hb : b < 32) : gb_df a b &&& b = 0 := (by decide +kernel : ∀ a, a < 32 → ∀ b, b < 32 → gb_df a b &&& b = 0) a ha b hb
theorem gb_dfo {a b : Nat} (ha : a < 32) (hb : b < 32) : gb_df a b ||| b = a ||| b := (by decide +kernel : ∀ a, a < 32 → ∀ b, b < 32 → gb_df a b ||| b = a ||| b) a ha b hb
/-- L divides m -/
def gb_dv (a b : Nat) : Prop := a ||| b = b
theorem gb_dvr (a : Nat) : gb_dv a a := Nat.or_self a
theorem gb_dvt {a b c : Nat} (h : gb_dv a b) (h2 : gb_dv b c) : gb_dv a c := by
  unfold gb_dv at *
  rw [← h2, ← Nat.or_assoc, h]
theorem gb_dvo (a b : Nat) : gb_dv a (a ||| b) := by unfold gb_dv; rw [← Nat.or_assoc, Nat.or_self]
theorem gb_dvle {a b : Nat} (h : gb_dv a b) : a ≤ b := by rw [← (show a ||| b = b from h)]; exact Nat.left_le_or
/-! ===== one bit ===== -/
def gb_e (p : Nat) : Int32 := (1 : Int32) <<< (nI p &&& 31)
theorem gb_be {p q : Nat} (hp : p < 32) (hq : q < 32) : bt (gb_e p) q = decide (q = p) := (by decide +kernel : ∀ p, p < 32 → ∀ q, q < 32 → bt (gb_e p) q = decide (q = p)) p hp q hq
theorem gb_ne {x : Int32} (h : x ≠ 0) : ∃ p, p < 32 ∧ bt x p = true := by
  apply Classical.byContradiction
  intro z
  apply h
  apply b_ext
  intro i hi
  rw [b_0]
  cases e : bt x i with
  | false => rfl
  | true => exact absurd ⟨i, hi, e⟩ z
/-! ===== x times a monomial ===== -/
def gb_tmN (K : Bool) (x : Int32) (m : Nat) : Nat → Int32
  | 0 => 0
  | n + 1 => if bt x n then gb_tmN K x m n ^^^ gb_e (gb_P K (gb_M K n ||| m)) else gb_tmN K x m n
def gb_tm (K : Bool) (x : Int32) (m : Nat) : Int32 := gb_tmN K x m 32
theorem gb_tmN_xor (K : Bool) (x y : Int32) (m : Nat) : ∀ n, gb_tmN K (x ^^^ y) m n = gb_tmN K x m n ^^^ gb_tmN K y m n
  | 0 => (gb_xs 0).symm
  | n + 1 => by
    have ih := gb_tmN_xor K x y m n
    have hb := b_xor x y n
    unfold gb_tmN
    rw [ih, hb]
    generalize gb_e (gb_P K (gb_M K n ||| m)) = e
    generalize gb_tmN K x m n = a
    generalize gb_tmN K y m n = b
    cases bt x n <;> cases bt y n
    · rfl
    · show a ^^^ b ^^^ e = a ^^^ (b ^^^ e)
      ac_rfl
    · show a ^^^ b ^^^ e = a ^^^ e ^^^ b
      ac_rfl
    · show a ^^^ b = a ^^^ e ^^^ (b ^^^ e)
      rw [show a ^^^ e ^^^ (b ^^^ e) = a ^^^ b ^^^ e ^^^ e by ac_rfl, gb_xx]
theorem gb_tm_xor (K : Bool) (x y : Int32) (m : Nat) : gb_tm K (x ^^^ y) m = gb_tm K x m ^^^ gb_tm K y m := gb_tmN_xor K x y m 32
theorem gb_tmN_0 (K : Bool) (m : Nat) : ∀ n, gb_tmN K 0 m n = 0
  | 0 => rfl
  | n + 1 => by
    unfold gb_tmN
    rw [b_0]
    exact gb_tmN_0 K m n
theorem gb_tm_0 (K : Bool) (m : Nat) : gb_tm K 0 m = 0 := gb_tmN_0 K m 32
theorem gb_tmN_e (K : Bool) {p : Nat} (hp : p < 32) (m : Nat) : ∀ n, n ≤ 32 → gb_tmN K (gb_e p) m n = if p < n then gb_e (gb_P K (gb_M K p ||| m)) else 0
  | 0, _ => by rw [if_neg (by omega)]; rfl
  | n + 1, hn => by
    have ih := gb_tmN_e K hp m n (by omega)
    unfold gb_tmN
    rw [gb_be hp (by omega), ih]
    by_cases e : n = p
    · subst e
      rw [if_pos (show decide (n = n) = true by simp), if_neg (show ¬ n < n by omega), if_pos (show n < n + 1 by omega), gb_0x]
    · rw [if_neg (show ¬ (decide (n = p) = true) by simp [e])]
      by_cases h : p < n
      · rw [if_pos h, if_pos (by omega)]
      · rw [if_neg h, if_neg (by omega)]
theorem gb_tm_e (K : Bool) {p : Nat} (hp : p < 32) (m : Nat) : gb_tm K (gb_e p) m = gb_e (gb_P K (gb_M K p ||| m)) := by
  unfold gb_tm
  rw [gb_tmN_e K hp m 32 (by omega), if_pos hp]
theorem gb_tmN_tm (K : Bool) (x : Int32) {m k : Nat} (hm : m < 32) (hk : k < 32) : ∀ n, n ≤ 32 → gb_tm K (gb_tmN K x m n) k = gb_tmN K x (m ||| k) n
  | 0, _ => gb_tm_0 K k
  | n + 1, hn => by
    have ih := gb_tmN_tm K x hm hk n (by omega)
    have ho := gb_or (gb_Mlt K (show n < 32 by omega)) hm
    unfold gb_tmN
    cases bt x n
    · exact ih
    · show gb_tm K (gb_tmN K x m n ^^^ gb_e (gb_P K (gb_M K n ||| m))) k = gb_tmN K x (m ||| k) n ^^^ gb_e (gb_P K (gb_M K n ||| (m ||| k)))
      rw [gb_tm_xor, ih, gb_tm_e K (gb_Plt K ho), gb_MP K ho, Nat.or_assoc]
theorem gb_tm_tm (K : Bool) (x : Int32) {m k : Nat} (hm : m < 32) (hk : k < 32) : gb_tm K (gb_tm K x m) k = gb_tm K x (m ||| k) := gb_tmN_tm K x hm hk 32 (by omega)
theorem gb_tmN_1 (K : Bool) (x : Int32) {p : Nat} (hp : p < 32) : ∀ n, n ≤ 32 → bt (gb_tmN K x 0 n) p = (decide (p < n) && bt x p)
  | 0, _ => by
    show bt 0 p = _
    rw [b_0, decide_eq_false (by omega)]
    rfl
  | n + 1, hn => by
    have ih := gb_tmN_1 K x hp n (by omega)
    unfold gb_tmN
    rw [Nat.or_zero, gb_PM K (show n < 32 by omega)]
    by_cases e : p = n
    · subst e
      have ih2 : bt (gb_tmN K x 0 p) p = false := by rw [ih, decide_eq_false (by omega)]; rfl
      cases hb : bt x p
      · show bt (gb_tmN K x 0 p) p = _
        rw [ih2]
        simp
      · show bt (gb_tmN K x 0 p ^^^ gb_e p) p = _
        rw [b_xor, ih2, gb_be hp hp]
        simp
    · have hd : decide (p < n + 1) = decide (p < n) := by
        apply decide_eq_decide.mpr
        omega
      cases bt x n
      · show bt (gb_tmN K x 0 n) p = _
        rw [ih, hd]
      · show bt (gb_tmN K x 0 n ^^^ gb_e n) p = _
        rw [b_xor, ih, gb_be (by omega) hp, hd, decide_eq_false e]
        simp
theorem gb_tm_1 (K : Bool) (x : Int32) : gb_tm K x 0 = x := by
  apply b_ext
  intro p hp
  unfold gb_tm
  rw [gb_tmN_1 K x hp 32 (by omega), decide_eq_true hp]
  rfl
theorem gb_tmN_bt (K : Bool) (x : Int32) {m p : Nat} (hm : m < 32) (hp : p < 32) : ∀ n, n ≤ 32 → bt (gb_tmN K x m n) p = true → ∃ q, q < n ∧ bt x q = true ∧ p = gb_P K (gb_M K q ||| m)
  | 0, _, h => by
    have h : bt 0 p = true := h
    rw [b_0] at h
    exact absurd h (by decide)
  | n + 1, hn, h => by
    unfold gb_tmN at h
    cases hb : bt x n with
    | false =>
      rw [hb] at h
      obtain ⟨q, h1, h2, h3⟩ := gb_tmN_bt K x hm hp n (by omega) h
      exact ⟨q, by omega, h2, h3⟩
    | true =>
      rw [hb] at h
      have h : bt (gb_tmN K x m n ^^^ gb_e (gb_P K (gb_M K n ||| m))) p = true := h
      by_cases e : p = gb_P K (gb_M K n ||| m)
      · exact ⟨n, by omega, hb, e⟩
      · rw [b_xor, gb_be (gb_Plt K (gb_or (gb_Mlt K (by omega)) hm)) hp, decide_eq_false e] at h
        obtain ⟨q, h1, h2, h3⟩ := gb_tmN_bt K x hm hp n (by omega) (by simpa using h)
        exact ⟨q, by omega, h2, h3⟩
theorem gb_tm_bt (K : Bool) {x : Int32} {m p : Nat} (hm : m < 32) (hp : p < 32) (h : bt (gb_tm K x m) p = true) : ∃ q, q < 32 ∧ bt x q = true ∧ gb_M K p = gb_M K q ||| m := by
  obtain ⟨q, h1, h2, h3⟩ := gb_tmN_bt K x hm hp 32 (by omega) h
  exact ⟨q, h1, h2, by rw [h3, gb_MP K (gb_or (gb_Mlt K h1) hm)]⟩
/-! ===== the highest place ===== -/
def gb_hiN (x : Int32) : Nat → Nat
  | 0 => 0
  | n + 1 => if bt x (n + 1) then n + 1 else gb_hiN x n
def gb_hi (x : Int32) : Nat := gb_hiN x 31
theorem gb_hiN_le (x : Int32) : ∀ n, gb_hiN x n ≤ n
  | 0 => Nat.le_refl 0
  | n + 1 => by
    have ih := gb_hiN_le x n
    unfold gb_hiN
    split <;> omega
theorem gb_hi_lt (x : Int32) : gb_hi x < 32 := Nat.lt_of_le_of_lt (gb_hiN_le x 31) (by omega)
theorem gb_hiN_up (x : Int32) {q : Nat} : ∀ n, gb_hiN x n < q → q ≤ n → bt x q = false
  | 0, h, h2 => by omega
  | n + 1, h, h2 => by
    unfold gb_hiN at h
    cases hb : bt x (n + 1) with
    | true =>
      rw [hb] at h
      have h : n + 1 < q := h
      omega
    | false =>
      rw [hb] at h
      by_cases e : q = n + 1
      · rw [e, hb]
      · exact gb_hiN_up x n h (by omega)
theorem gb_hi_up {x : Int32} {q : Nat} (h : gb_hi x < q) (hq : q < 32) : bt x q = false := gb_hiN_up x 31 h (by omega)
theorem gb_hiN_at (x : Int32) : ∀ n, gb_hiN x n = 0 ∨ bt x (gb_hiN x n) = true
  | 0 => Or.inl rfl
  | n + 1 => by
    unfold gb_hiN
    cases hb : bt x (n + 1) with
    | true => exact Or.inr hb
    | false => exact gb_hiN_at x n
theorem gb_hi_at {x : Int32} (h : x ≠ 0) : bt x (gb_hi x) = true := by
  rcases gb_hiN_at x 31 with z | z
  · have z : gb_hi x = 0 := z
    obtain ⟨p, hp, hb⟩ := gb_ne h
    by_cases e : p = 0
    · rw [z, ← e]
      exact hb
    · have := gb_hi_up (x := x) (q := p) (by omega) hp
      rw [this] at hb
      exact absurd hb (by decide)
  · exact z
theorem gb_hi_le {x : Int32} {q : Nat} (hq : q < 32) (h : bt x q = true) : q ≤ gb_hi x := by
  rcases Nat.lt_or_ge (gb_hi x) q with z | z
  · rw [gb_hi_up z hq] at h
    exact absurd h (by decide)
  · exact z
theorem gb_hi_eq {x : Int32} {p : Nat} (hp : p < 32) (h : bt x p = true) (hu : ∀ q, p < q → q < 32 → bt x q = false) : gb_hi x = p := by
  have h1 := gb_hi_le hp h
  rcases Nat.lt_or_ge p (gb_hi x) with z | z
  · have t := hu _ z (gb_hi_lt x)
    rw [gb_hi_at (by intro e; rw [e, b_0] at h; exact absurd h (by decide))] at t
    exact absurd t (by decide)
  · omega
/-- the leading monomial -/
def gb_L (K : Bool) (x : Int32) : Nat := gb_M K (gb_hi x)
theorem gb_L_lt (K : Bool) (x : Int32) : gb_L K x < 32 := gb_Mlt K (gb_hi_lt x)
theorem gb_wL (K : Bool) {x : Int32} {q : Nat} (hq : q < 32) (h : bt x q = true) : gb_w K (gb_M K q) ≤ gb_w K (gb_L K x) := by
  have h1 := gb_hi_le hq h
  rcases Nat.lt_or_ge q (gb_hi x) with z | z
  · exact Nat.le_of_lt (gb_wM K (gb_hi_lt x) z)
  · rw [show q = gb_hi x by omega]
    exact Nat.le_refl _
theorem gb_wL2 (K : Bool) {x : Int32} {q : Nat} (hq : q < 32) (h : bt x q = true) (hn : q ≠ gb_hi x) : gb_w K (gb_M K q) < gb_w K (gb_L K x) := by
  have h1 := gb_hi_le hq h
  exact gb_wM K (gb_hi_lt x) (by omega)
theorem gb_tmN_top (K : Bool) (x : Int32) (m : Nat) : ∀ k, gb_hi x + 1 + k ≤ 32 → gb_tmN K x m (gb_hi x + 1 + k) = gb_tmN K x m (gb_hi x + 1)
  | 0, _ => rfl
  | k + 1, hk => by
    have ih := gb_tmN_top K x m k (by omega)
    show gb_tmN K x m ((gb_hi x + 1 + k) + 1) = _
    rw [← ih]
    conv => lhs; unfold gb_tmN
    rw [gb_hi_up (by omega) (by omega)]
    rfl
/-- a multiple by a factor without a variable of the leading monomial: its highest place -/
theorem gb_tm_top (K : Bool) {x : Int32} {m : Nat} (hx : x ≠ 0) (hm : m < 32) (h0 : m &&& gb_L K x = 0) : bt (gb_tm K x m) (gb_P K (gb_L K x ||| m)) = true := by
  have hL := gb_L_lt K x
  have hh := gb_hi_lt x
  have ho := gb_or hL hm
  have e : gb_tm K x m = gb_tmN K x m (gb_hi x + 1) := by
    have t := gb_tmN_top K x m (31 - gb_hi x) (by omega)
    rw [show gb_hi x + 1 + (31 - gb_hi x) = 32 by omega] at t
    exact t
  have e2 : gb_tmN K x m (gb_hi x + 1) = gb_tmN K x m (gb_hi x) ^^^ gb_e (gb_P K (gb_L K x ||| m)) := by
    conv => lhs; unfold gb_tmN
    rw [gb_hi_at hx]
    rfl
  rw [e, e2, b_xor, gb_be (gb_Plt K ho) (gb_Plt K ho)]
  cases hb : bt (gb_tmN K x m (gb_hi x)) (gb_P K (gb_L K x ||| m)) with
  | false => simp
  | true =>
    obtain ⟨q, h1, h2, h3⟩ := gb_tmN_bt K x hm (gb_Plt K ho) (gb_hi x) (by omega) hb
    have hq : q < 32 := by omega
    have h4 : gb_L K x ||| m = gb_M K q ||| m := by
      have t := congrArg (gb_M K) h3
      rw [gb_MP K ho, gb_MP K (gb_or (gb_Mlt K hq) hm)] at t
      exact t
    have w1 := gb_wd K hL hm (by rw [Nat.and_comm]; exact h0)
    have w2 := gb_wle K (gb_Mlt K hq) hm
    have w3 : gb_w K (gb_M K q) < gb_w K (gb_L K x) := gb_wM K hh h1
    rw [h4] at w1
    omega
theorem gb_tm_wle (K : Bool) {x : Int32} {m p : Nat} (hm : m < 32) (hp : p < 32) (h : bt (gb_tm K x m) p = true) : gb_w K (gb_M K p) ≤ gb_w K m + gb_w K (gb_L K x) := by
  obtain ⟨q, h1, h2, h3⟩ := gb_tm_bt K hm hp h
  have t := gb_wle K (gb_Mlt K h1) hm
  have t2 := gb_wL K h1 h2
  rw [h3]
  omega
end
section
/-! ===== sums of multiples by factors without a variable of the leading monomial, of weight below N ===== -/
def gb_sp (K : Bool) (G : Nat → Int32) (n N : Nat) (x : Int32) : Prop :=
  ∀ Q : Int32 → Prop, Q 0 → (∀ y i m, i < n → m < 32 → m &&& gb_L K (G i) = 0 → gb_w K m + gb_w K (gb_L K (G i)) < N → Q y → Q (y ^^^ gb_tm K (G i) m)) → Q x
/-- all bits of x are below N -/
def gb_bd (K : Bool) (N : Nat) (x : Int32) : Prop := ∀ p, p < 32 → bt x p = true → gb_w K (gb_M K p) < N
theorem gb_sp_0 (K : Bool) (G : Nat → Int32) (n N : Nat) : gb_sp K G n N 0 := fun _ h _ => h
theorem gb_sp_gen {K : Bool} {G : Nat → Int32} {n N i m : Nat} (hi : i < n) (hm : m < 32) (h0 : m &&& gb_L K (G i) = 0) (hw : gb_w K m + gb_w K (gb_L K (G i)) < N) : gb_sp K G n N (gb_tm K (G i) m) := by
  intro Q h hs
  have t := hs 0 i m hi hm h0 hw h
  rw [gb_0x] at t
  exact t
theorem gb_sp_add {K : Bool} {G : Nat → Int32} {n N : Nat} {x y : Int32} (hx : gb_sp K G n N x) (hy : gb_sp K G n N y) : gb_sp K G n N (x ^^^ y) := by
  intro Q h hs
  refine hy (fun z => Q (x ^^^ z)) ?_ ?_
  · show Q (x ^^^ 0)
    rw [gb_x0]
    exact hx Q h hs
  · intro z i m hi hm h0 hw hz
    show Q (x ^^^ (z ^^^ gb_tm K (G i) m))
    rw [← Int32.xor_assoc]
    exact hs _ i m hi hm h0 hw hz
theorem gb_sp_mono {K : Bool} {G : Nat → Int32} {n N N' : Nat} {x : Int32} (h : gb_sp K G n N x) (hN : N ≤ N') : gb_sp K G n N' x :=
  fun Q h0 hs => h Q h0 (fun y i m hi hm hd hw hy => hs y i m hi hm hd (by omega) hy)
theorem gb_sp_ext {K : Bool} {G G' : Nat → Int32} {n n' N : Nat} {x : Int32} (h : gb_sp K G n N x) (hn : n ≤ n') (hG : ∀ i, i < n → G' i = G i) : gb_sp K G' n' N x := by
  intro Q h0 hs
  refine h Q h0 (fun y i m hi hm hd hw hy => ?_)
  have t := hs y i m (by omega) hm
  rw [hG i hi] at t
  exact t hd hw hy
theorem gb_bd_0 (K : Bool) (N : Nat) : gb_bd K N 0 := by
  intro p _ h
  rw [b_0] at h
  exact absurd h (by decide)
theorem gb_bd_add {K : Bool} {N : Nat} {x y : Int32} (hx : gb_bd K N x) (hy : gb_bd K N y) : gb_bd K N (x ^^^ y) := by
  intro p hp h
  rw [b_xor] at h
  cases hb : bt x p with
  | true => exact hx p hp hb
  | false =>
    rw [hb] at h
    exact hy p hp (by simpa using h)
theorem gb_bd_tm {K : Bool} {N : Nat} {x : Int32} {m : Nat} (hm : m < 32) (h : gb_w K m + gb_w K (gb_L K x) < N) : gb_bd K N (gb_tm K x m) := by
  intro p hp hb
  have t := gb_tm_wle K hm hp hb
  omega
theorem gb_bd_big (K : Bool) (x : Int32) : gb_bd K 400 x := by
  intro p hp _
  have t := gb_w2 K (gb_Mlt K hp)
  omega
theorem gb_sp_bd {K : Bool} {G : Nat → Int32} {n N : Nat} {x : Int32} (h : gb_sp K G n N x) : gb_bd K N x :=
  h (gb_bd K N) (gb_bd_0 K N) (fun y i m _ hm _ hw hy => gb_bd_add hy (gb_bd_tm hm hw))
theorem gb_sp_mul {K : Bool} {G : Nat → Int32} {n N N' : Nat} {x : Int32} {k : Nat} (hk : k < 32) (h : gb_sp K G n N x) (hg : ∀ i m, i < n → m < 32 → gb_w K m + gb_w K (gb_L K (G i)) < N → gb_sp K G n N' (gb_tm K (G i) (m ||| k))) : gb_sp K G n N' (gb_tm K x k) := by
  refine h (fun y => gb_sp K G n N' (gb_tm K y k)) ?_ ?_
  · show gb_sp K G n N' (gb_tm K 0 k)
    rw [gb_tm_0]
    exact gb_sp_0 K G n N'
  · intro y i m hi hm h0 hw hy
    show gb_sp K G n N' (gb_tm K (y ^^^ gb_tm K (G i) m) k)
    rw [gb_tm_xor, gb_tm_tm K _ hm hk]
    exact gb_sp_add hy (hg i m hi hm hw)
/-- products with a variable of the leading monomial -/
def gb_V (K : Bool) (G : Nat → Int32) (n : Nat) : Prop := ∀ i v, i < n → v < 5 → 2 ^ v &&& gb_L K (G i) ≠ 0 → gb_sp K G n (gb_w K (2 ^ v) + gb_w K (gb_L K (G i))) (gb_tm K (G i) (2 ^ v))
/-- the sum of two multiples whose leading monomials cancel -/
def gb_pr (K : Bool) (x y : Int32) : Int32 := gb_tm K x (gb_df (gb_L K x ||| gb_L K y) (gb_L K x)) ^^^ gb_tm K y (gb_df (gb_L K x ||| gb_L K y) (gb_L K y))
def gb_S (K : Bool) (G : Nat → Int32) (n : Nat) : Prop := ∀ i j, i < n → j < i → gb_sp K G n (gb_w K (gb_L K (G i) ||| gb_L K (G j))) (gb_pr K (G i) (G j))
theorem gb_comv {a b : Nat} (ha : a < 32) (hb : b < 32) (h : a &&& b ≠ 0) : ∃ v, v < 5 ∧ 2 ^ v &&& a ≠ 0 ∧ 2 ^ v &&& b ≠ 0 := (by decide +kernel : ∀ a, a < 32 → ∀ b, b < 32 → a &&& b ≠ 0 → ∃ v, v < 5 ∧ 2 ^ v &&& a ≠ 0 ∧ 2 ^ v &&& b ≠ 0) a ha b hb h
theorem gb_v32 {v : Nat} (h : v < 5) : 2 ^ v < 32 := Nat.pow_lt_pow_right (a := 2) (n := 5) (by decide) h
theorem gb_vor {a v : Nat} (ha : a < 32) (hv : v < 5) (h : 2 ^ v &&& a ≠ 0) : 2 ^ v ||| gb_df a (2 ^ v) = a := (by decide +kernel : ∀ a, a < 32 → ∀ v, v < 5 → 2 ^ v &&& a ≠ 0 → 2 ^ v ||| gb_df a (2 ^ v) = a) a ha v hv h
/-- every multiple is such a sum, of its own weight -/
theorem gb_A {K : Bool} {G : Nat → Int32} {n : Nat} (hV : gb_V K G n) : ∀ N i m, i < n → m < 32 → gb_w K m + gb_w K (gb_L K (G i)) < N → gb_sp K G n N (gb_tm K (G i) m) := by
  intro N
  induction N using Nat.strongRecOn with
  | ind N ih =>
    intro i m hi hm hw
    by_cases h0 : m &&& gb_L K (G i) = 0
    · exact gb_sp_gen hi hm h0 hw
    · obtain ⟨v, hv, hvm, hvL⟩ := gb_comv hm (gb_L_lt K (G i)) h0
      have hp := gb_v32 hv
      have hd := gb_dfl (2 ^ v) hm
      have e := gb_vor hm hv hvm
      have ew : gb_w K m = gb_w K (2 ^ v) + gb_w K (gb_df m (2 ^ v)) := by
        have t := gb_wd K hp hd (by rw [Nat.and_comm]; exact gb_df0 hm hp)
        rw [e] at t
        exact t
      have e2 : gb_tm K (G i) m = gb_tm K (gb_tm K (G i) (2 ^ v)) (gb_df m (2 ^ v)) := by rw [gb_tm_tm K _ hp hd, e]
      rw [e2]
      refine gb_sp_mul hd (hV i v hi hv hvL) (fun j k hj hk hwk => ?_)
      have t := gb_wle K hk hd
      refine gb_sp_mono (ih (gb_w K m + gb_w K (gb_L K (G i))) hw j (k ||| gb_df m (2 ^ v)) hj (gb_or hk hd) (by omega)) (by omega)
theorem gb_pr_sym (K : Bool) (x y : Int32) : gb_pr K y x = gb_pr K x y := by
  unfold gb_pr
  rw [Nat.or_comm (gb_L K y) (gb_L K x), Int32.xor_comm]
theorem gb_S_any {K : Bool} {G : Nat → Int32} {n : Nat} (hS : gb_S K G n) {i j : Nat} (hi : i < n) (hj : j < n) : gb_sp K G n (gb_w K (gb_L K (G i) ||| gb_L K (G j))) (gb_pr K (G i) (G j)) := by
  rcases Nat.lt_trichotomy i j with h | h | h
  · have t := hS j i hj h
    rw [gb_pr_sym, Nat.or_comm] at t
    exact t
  · subst h
    unfold gb_pr
    rw [gb_xs]
    exact gb_sp_0 _ _ _ _
  · exact hS i j hi h
theorem gb_spl {m a b : Nat} (hm : m < 32) (ha : a < 32) (hb : b < 32) (h0 : m &&& a = 0) (hd : gb_dv b (m ||| a)) : gb_df (a ||| b) a ||| gb_df (m ||| a) (a ||| b) = m := by
  unfold gb_dv at hd
  have h : ∀ m, m < 32 → ∀ a, a < 32 → m &&& a = 0 → ∀ b, b < 32 → b ||| (m ||| a) = m ||| a → gb_df (a ||| b) a ||| gb_df (m ||| a) (a ||| b) = m := by decide +kernel
  exact h m hm a ha h0 b hb hd
/-- two multiples with the same highest place: their sum is of lower weight -/
theorem gb_same {K : Bool} {G : Nat → Int32} {n : Nat} (hV : gb_V K G n) (hS : gb_S K G n) {i j m k N : Nat} (hi : i < n) (hj : j < n) (hm : m < 32) (hk : k < 32) (hm0 : m &&& gb_L K (G i) = 0) (hk0 : k &&& gb_L K (G j) = 0) (hwi : gb_w K m + gb_w K (gb_L K (G i)) = N) (hwj : gb_w K k + gb_w K (gb_L K (G j)) = N) : gb_sp K G n N (gb_tm K (G i) m ^^^ gb_tm K (G j) k) := by
  have hSs := gb_S_any hS hi hj
  unfold gb_pr at hSs
  have ha := gb_L_lt K (G i)
  have hb := gb_L_lt K (G j)
  have hA := gb_A hV
  generalize gb_L K (G i) = a at *
  generalize gb_L K (G j) = b at *
  have hab := gb_or ha hb
  have w1 := gb_wd K hm ha hm0
  have w2 := gb_wd K hk hb hk0
  have e : m ||| a = k ||| b := gb_wi K (gb_or hm ha) (gb_or hk hb) (by omega)
  have d1 : gb_dv b (m ||| a) := by rw [e, Nat.or_comm]; exact gb_dvo b k
  have d2 : gb_dv a (k ||| b) := by rw [← e, Nat.or_comm]; exact gb_dvo a m
  have s1 := gb_spl hm ha hb hm0 d1
  have s2 := gb_spl hk hb ha hk0 d2
  rw [← e, Nat.or_comm b a] at s2
  have hq : gb_df (m ||| a) (a ||| b) < 32 := gb_dfl _ (gb_or hm ha)
  have hqo : gb_df (m ||| a) (a ||| b) ||| (a ||| b) = m ||| a := by
    rw [gb_dfo (gb_or hm ha) hab, Nat.or_assoc, ← Nat.or_assoc a a b, Nat.or_self, ← Nat.or_assoc, Nat.or_comm]
    exact d1
  have wq := gb_wd K hq hab (gb_df0 (gb_or hm ha) hab)
  rw [hqo] at wq
  generalize gb_df (m ||| a) (a ||| b) = q at *
  have hd1 : gb_df (a ||| b) a < 32 := gb_dfl _ hab
  have hd2 : gb_df (a ||| b) b < 32 := gb_dfl _ hab
  have e3 : gb_tm K (G i) m ^^^ gb_tm K (G j) k = gb_tm K (gb_tm K (G i) (gb_df (a ||| b) a) ^^^ gb_tm K (G j) (gb_df (a ||| b) b)) q := by
    rw [gb_tm_xor, gb_tm_tm K _ hd1 hq, gb_tm_tm K _ hd2 hq, s1, s2]
  rw [e3]
  refine gb_sp_mul hq hSs (fun l c hl hc hwc => hA N l (c ||| q) hl (gb_or hc hq) ?_)
  have t := gb_wle K hc hq
  omega
/-- what lies in the sums and isn't 0 has a bit that a leading monomial divides -/
theorem gb_B {K : Bool} {G : Nat → Int32} {n : Nat} (hV : gb_V K G n) (hS : gb_S K G n) (hG : ∀ i, i < n → G i ≠ 0) : ∀ N x, gb_sp K G n N x → x ≠ 0 → ∃ i, i < n ∧ ∃ p, p < 32 ∧ bt x p = true ∧ gb_dv (gb_L K (G i)) (gb_M K p) := by
  intro N
  induction N with
  | zero =>
    intro x h hx
    exact absurd (h (fun y => y = 0) rfl (fun y i m _ _ _ hw _ => absurd hw (by omega))) hx
  | succ N ih =>
    intro x h hx
    have key : gb_sp K G n N x ∨ ∃ i m, i < n ∧ m < 32 ∧ m &&& gb_L K (G i) = 0 ∧ gb_w K m + gb_w K (gb_L K (G i)) = N ∧ gb_sp K G n N (x ^^^ gb_tm K (G i) m) := by
      refine h (fun y => gb_sp K G n N y ∨ ∃ i m, i < n ∧ m < 32 ∧ m &&& gb_L K (G i) = 0 ∧ gb_w K m + gb_w K (gb_L K (G i)) = N ∧ gb_sp K G n N (y ^^^ gb_tm K (G i) m)) (Or.inl (gb_sp_0 K G n N)) ?_
      intro y j k hj hk hk0 hw hy
      rcases Nat.lt_or_ge (gb_w K k + gb_w K (gb_L K (G j))) N with z | z
      · have g := gb_sp_gen hj hk hk0 z
        rcases hy with hy | ⟨i, m, hi, hm, hm0, hwi, hy⟩
        · exact Or.inl (gb_sp_add hy g)
        · refine Or.inr ⟨i, m, hi, hm, hm0, hwi, ?_⟩
          rw [show y ^^^ gb_tm K (G j) k ^^^ gb_tm K (G i) m = (y ^^^ gb_tm K (G i) m) ^^^ gb_tm K (G j) k by ac_rfl]
          exact gb_sp_add hy g
      · have hwj : gb_w K k + gb_w K (gb_L K (G j)) = N := by omega
        rcases hy with hy | ⟨i, m, hi, hm, hm0, hwi, hy⟩
        · refine Or.inr ⟨j, k, hj, hk, hk0, hwj, ?_⟩
          rw [gb_xx]
          exact hy
        · refine Or.inl ?_
          have t := gb_sp_add hy (gb_same hV hS hi hj hm hk hm0 hk0 hwi hwj)
          rw [← Int32.xor_assoc, gb_xx] at t
          exact t
    rcases key with z | ⟨i, m, hi, hm, hm0, hwi, hy⟩
    · exact ih x z hx
    · have hL := gb_L_lt K (G i)
      have ho := gb_or hL hm
      refine ⟨i, hi, gb_P K (gb_L K (G i) ||| m), gb_Plt K ho, ?_, ?_⟩
      · have t := gb_tm_top K (hG i hi) hm hm0
        have hb := gb_sp_bd hy (gb_P K (gb_L K (G i) ||| m)) (gb_Plt K ho)
        rw [gb_MP K ho, gb_wd K hL hm (by rw [Nat.and_comm]; exact hm0), b_xor, t] at hb
        cases e : bt x (gb_P K (gb_L K (G i) ||| m)) with
        | true => rfl
        | false =>
          rw [e] at hb
          have := hb rfl
          omega
      · rw [gb_MP K ho]
        exact gb_dvo _ _
/-! ===== the certificate: x reduces to 0 by B ===== -/
def gb_Z (K : Bool) (B : Nat → Int32) (n : Nat) (x : Int32) : Prop := ∃ D : Int32 → Prop, D x ∧ (∀ y z, D y → D z → D (y ^^^ z)) ∧ (∀ y m, m < 32 → D y → D (gb_tm K y m)) ∧ (∀ t, t < n → D (B t) ∧ B t ≠ 0) ∧ (∀ y, D y → y ≠ 0 → ∃ t, t < n ∧ ∃ p, p < 32 ∧ bt y p = true ∧ gb_dv (gb_L K (B t)) (gb_M K p))
theorem gb_sp_id {K : Bool} {G : Nat → Int32} {n : Nat} (hV : gb_V K G n) {x : Int32} {k : Nat} (hk : k < 32) (h : gb_sp K G n 400 x) : gb_sp K G n 400 (gb_tm K x k) := by
  refine gb_sp_mul hk h (fun i m hi hm _ => gb_A hV 400 i (m ||| k) hi (gb_or hm hk) ?_)
  have t1 := gb_w2 K (gb_or hm hk)
  have t2 := gb_w2 K (gb_L_lt K (G i))
  omega
theorem gb_Z_of {K : Bool} {G B : Nat → Int32} {n c : Nat} {x : Int32} (hV : gb_V K G n) (hS : gb_S K G n) (hG : ∀ i, i < n → G i ≠ 0) (hx : gb_sp K G n 400 x) (hB : ∀ t, t < c → gb_sp K G n 400 (B t) ∧ B t ≠ 0) (hd : ∀ i, i < n → ∃ t, t < c ∧ gb_dv (gb_L K (B t)) (gb_L K (G i))) : gb_Z K B c x := by
  refine ⟨gb_sp K G n 400, hx, fun y z hy hz => gb_sp_add hy hz, fun y m hm hy => gb_sp_id hV hm hy, hB, fun y hy h0 => ?_⟩
  obtain ⟨i, hi, p, hp, hb, hdv⟩ := gb_B hV hS hG 400 y hy h0
  obtain ⟨t, ht, hdt⟩ := hd i hi
  exact ⟨t, ht, p, hp, hb, gb_dvt hdt hdv⟩
/-! ===== a step of the reduction ===== -/
theorem gb_stp {K : Bool} {g : Int32} {p : Nat} (hg : g ≠ 0) (hp : p < 32) (hd : gb_dv (gb_L K g) (gb_M K p)) : bt (gb_tm K g (gb_df (gb_M K p) (gb_L K g))) p = true ∧ (∀ q, p < q → q < 32 → bt (gb_tm K g (gb_df (gb_M K p) (gb_L K g))) q = false) ∧ gb_w K (gb_df (gb_M K p) (gb_L K g)) + gb_w K (gb_L K g) = gb_w K (gb_M K p) ∧ gb_df (gb_M K p) (gb_L K g) < 32 ∧ gb_df (gb_M K p) (gb_L K g) &&& gb_L K g = 0 := by
  have hM := gb_Mlt K hp
  have hL := gb_L_lt K g
  have h0 := gb_df0 hM hL
  have hm : gb_df (gb_M K p) (gb_L K g) < 32 := gb_dfl _ hM
  have ho : gb_df (gb_M K p) (gb_L K g) ||| gb_L K g = gb_M K p := by
    rw [gb_dfo hM hL, Nat.or_comm]
    exact hd
  have w := gb_wd K hm hL h0
  rw [ho] at w
  refine ⟨?_, ?_, w.symm, hm, h0⟩
  · have t := gb_tm_top K hg hm h0
    rw [Nat.or_comm, ho, gb_PM K hp] at t
    exact t
  · intro q hpq hq
    cases hb : bt (gb_tm K g (gb_df (gb_M K p) (gb_L K g))) q with
    | false => rfl
    | true =>
      have t := gb_tm_wle K hm hq hb
      have t2 := gb_wM K hq hpq
      omega
/-! ===== bounds of what is tried ===== -/
theorem gb_bd_V {K : Bool} {g : Int32} {v : Nat} (hv : v < 5) (h : 2 ^ v &&& gb_L K g ≠ 0) : gb_bd K (gb_w K (2 ^ v) + gb_w K (gb_L K g)) (gb_tm K g (2 ^ v)) := by
  intro p hp hb
  have hv2 := gb_v32 hv
  obtain ⟨q, hq, hbq, e⟩ := gb_tm_bt K hv2 hp hb
  rw [e]
  by_cases z : q = gb_hi g
  · rw [z]
    have t := gb_wlt K (gb_L_lt K g) hv2 (by rw [Nat.and_comm]; exact h)
    show gb_w K (gb_L K g ||| 2 ^ v) < _
    omega
  · have t := gb_wL2 K hq hbq z
    have t2 := gb_wle K (gb_Mlt K hq) hv2
    omega
theorem gb_tm_lt (K : Bool) {x : Int32} {m p : Nat} (hm : m < 32) (h0 : m &&& gb_L K x = 0) (hp : p < 32) (h : bt (gb_tm K x m) p = true) (hn : p ≠ gb_P K (gb_L K x ||| m)) : gb_w K (gb_M K p) < gb_w K (gb_L K x ||| m) := by
  have t := gb_tm_wle K hm hp h
  have hL := gb_L_lt K x
  have ho := gb_or hL hm
  rw [gb_wd K hL hm (by rw [Nat.and_comm]; exact h0)]
  rcases Nat.lt_or_ge (gb_w K (gb_M K p)) (gb_w K (gb_L K x) + gb_w K m) with z | z
  · exact z
  · have e : gb_M K p = gb_L K x ||| m := gb_wi K (gb_Mlt K hp) ho (by rw [gb_wd K hL hm (by rw [Nat.and_comm]; exact h0)]; omega)
    exact absurd (by rw [← e, gb_PM K hp]) hn
theorem gb_bd_S {K : Bool} {x y : Int32} (hx : x ≠ 0) (hy : y ≠ 0) : gb_bd K (gb_w K (gb_L K x ||| gb_L K y)) (gb_pr K x y) := by
  intro p hp hb
  unfold gb_pr at hb
  have ha := gb_L_lt K x
  have hc := gb_L_lt K y
  have hac := gb_or ha hc
  have m1 : gb_df (gb_L K x ||| gb_L K y) (gb_L K x) < 32 := gb_dfl _ hac
  have m2 : gb_df (gb_L K x ||| gb_L K y) (gb_L K y) < 32 := gb_dfl _ hac
  have z1 := gb_df0 hac ha
  have z2 := gb_df0 hac hc
  have o1 : gb_L K x ||| gb_df (gb_L K x ||| gb_L K y) (gb_L K x) = gb_L K x ||| gb_L K y := by
    rw [Nat.or_comm, gb_dfo hac ha, Nat.or_comm, ← Nat.or_assoc, Nat.or_self]
  have o2 : gb_L K y ||| gb_df (gb_L K x ||| gb_L K y) (gb_L K y) = gb_L K x ||| gb_L K y := by
    rw [Nat.or_comm, gb_dfo hac hc, Nat.or_assoc, Nat.or_self]
  have t1 := gb_tm_top K hx m1 z1
  have t2 := gb_tm_top K hy m2 z2
  have u1 := fun h => gb_tm_lt K m1 z1 hp h
  have u2 := fun h => gb_tm_lt K m2 z2 hp h
  rw [o1] at t1 u1
  rw [o2] at t2 u2
  by_cases e : p = gb_P K (gb_L K x ||| gb_L K y)
  · rw [b_xor, e, t1, t2] at hb
    exact absurd hb (by decide)
  · rw [b_xor] at hb
    cases h1 : bt (gb_tm K x (gb_df (gb_L K x ||| gb_L K y) (gb_L K x))) p with
    | true => exact u1 h1 e
    | false =>
      rw [h1] at hb
      exact u2 (by simpa using hb) e
/-! ===== the work list ===== -/
def gb_tab (K : Bool) (a3 a4 : Nat → Int32) : Prop := (∀ j, j < 32 → a3 j = nI (gb_P K j)) ∧ (∀ j, j < 32 → a4 j = nI (gb_M K j))
def gb_ok (K : Bool) (f : Int32) (n : Nat) (a5 a6 : Nat → Int32) : Prop := (∀ i, i < n → a5 i ≠ 0 ∧ a6 i = nI (gb_L K (a5 i))) ∧ (∀ i j, i < n → j < i → ¬ gb_dv (gb_L K (a5 j)) (gb_L K (a5 i))) ∧ gb_sp K a5 n 400 f
theorem gb_pig (f : Nat → Nat) (n k : Nat) (h : ∀ i, i < n → f i < k) (hi : ∀ i j, i < n → j < i → f j ≠ f i) : n ≤ k := by
  have hn : ((List.range n).map f).Nodup := by
    rw [List.nodup_iff_pairwise_ne, List.pairwise_map]
    refine List.Pairwise.imp_of_mem ?_ List.pairwise_lt_range
    intro a b _ hb hab
    exact hi b a (List.mem_range.mp hb) hab
  have t := hn.length_le_of_subset (l₂ := List.range k) (by
    intro x hx
    obtain ⟨a, ha, rfl⟩ := List.mem_map.mp hx
    exact List.mem_range.mpr (h a (List.mem_range.mp ha)))
  simpa using t
theorem gb_ok_n {K : Bool} {f : Int32} {n : Nat} {a5 a6 : Nat → Int32} (h : gb_ok K f n a5 a6) : n ≤ 32 :=
  gb_pig (fun i => gb_L K (a5 i)) n 32 (fun i _ => gb_L_lt K _) (fun i j hi hj e => h.2.1 i j hi hj (by rw [show gb_L K (a5 j) = gb_L K (a5 i) from e]; exact gb_dvr _))
theorem gb_ok_0 (K : Bool) (a5 a6 : Nat → Int32) : gb_ok K 0 0 a5 a6 := ⟨fun _ h => absurd h (by omega), fun _ _ h => absurd h (by omega), gb_sp_0 _ _ _ _⟩
theorem gb_ok_add {K : Bool} {f r : Int32} {n : Nat} {a5 a6 : Nat → Int32} (h : gb_ok K f n a5 a6) (hr : r ≠ 0) (hd : ∀ i, i < n → ¬ gb_dv (gb_L K (a5 i)) (gb_L K r)) : gb_ok K f (n + 1) (upd a5 n r) (upd a6 n (nI (gb_L K r))) := by
  have e5 : ∀ i, i < n → upd a5 n r i = a5 i := fun i hi => pk_un (by omega)
  have e6 : ∀ i, i < n → upd a6 n (nI (gb_L K r)) i = a6 i := fun i hi => pk_un (by omega)
  refine ⟨fun i hi => ?_, fun i j hi hj => ?_, gb_sp_ext h.2.2 (by omega) e5⟩
  · by_cases e : i = n
    · rw [e, pk_us, pk_us]
      exact ⟨hr, rfl⟩
    · rw [e5 i (by omega), e6 i (by omega)]
      exact h.1 i (by omega)
  · by_cases e : i = n
    · rw [e, pk_us, e5 j (by omega)]
      exact hd j (by omega)
    · rw [e5 i (by omega), e5 j (by omega)]
      exact h.2.1 i j (by omega) hj
end
section
/-! ===== bits as the program reads them ===== -/
def gb_i (b : Bool) : Int32 := if b then 1 else 0
theorem gb_and1 (y : Int32) : y &&& 1 = gb_i (bt y 0) := by
  apply b_ext
  intro i hi
  rw [b_and]
  have h1 : bt 1 i = decide (i = 0) := (by decide +kernel : ∀ i, i < 32 → bt 1 i = decide (i = 0)) i hi
  rw [h1]
  by_cases e : i = 0
  · subst e
    cases bt y 0 <;> rfl
  · rw [decide_eq_false e, Bool.and_false]
    cases bt y 0
    · exact (b_0 i).symm
    · show false = bt 1 i
      rw [h1, decide_eq_false e]
theorem gb_bit (x : Int32) {p : Nat} (hp : p < 32) : ((x.toUInt32 >>> ((nI p).toUInt32 &&& Int32.toUInt32 31)).toInt32) &&& 1 = gb_i (bt x p) := by
  rw [gb_and1, b_ushr p hp, Nat.add_zero]
theorem gb_b1 (x : Int32) {p : Nat} (hp : p < 32) : (((x.toUInt32 >>> ((nI p).toUInt32 &&& Int32.toUInt32 31)).toInt32) &&& 1) = 1 ↔ bt x p = true := by
  rw [gb_bit x hp]
  cases bt x p <;> decide
theorem gb_b0 (x : Int32) {p : Nat} (hp : p < 32) : (((x.toUInt32 >>> ((nI p).toUInt32 &&& Int32.toUInt32 31)).toInt32) &&& 1) = 0 ↔ bt x p = false := by
  rw [gb_bit x hp]
  cases bt x p <;> decide
theorem gb_nor (a b : Nat) : nI a ||| nI b = nI (a ||| b) := by
  apply Int32.toBitVec_inj.1
  show BitVec.ofNat 32 a ||| BitVec.ofNat 32 b = BitVec.ofNat 32 (a ||| b)
  apply BitVec.eq_of_getLsbD_eq
  intro i hi
  simp [hi]
theorem gb_ndf {a b : Nat} (ha : a < 32) (hb : b < 32) : nI a &&& (nI b ^^^ (-1)) = nI (gb_df a b) := (by decide +kernel : ∀ a, a < 32 → ∀ b, b < 32 → nI a &&& (nI b ^^^ (-1)) = nI (gb_df a b)) a ha b hb
theorem gb_ndv {a b : Nat} (ha : a < 32) (hb : b < 32) : (nI a &&& (nI b ^^^ (-1))) = 0 ↔ gb_dv a b := by
  unfold gb_dv
  exact (by decide +kernel : ∀ a, a < 32 → ∀ b, b < 32 → ((nI a &&& (nI b ^^^ (-1))) = 0 ↔ a ||| b = b)) a ha b hb
theorem gb_dvD (a b : Nat) : gb_dv a b ∨ ¬ gb_dv a b := Classical.em _
/-! ===== ones ===== -/
def gb_onN (m : Nat) : Nat → Nat
  | 0 => 0
  | i + 1 => gb_onN m i + m / 2 ^ i % 2
theorem gb_obit {m i : Nat} (hm : m < 32) (hi : i < 5) : (nI m >>> (nI i &&& 31)) &&& 1 = nI (m / 2 ^ i % 2) := (by decide +kernel : ∀ m, m < 32 → ∀ i, i < 5 → (nI m >>> (nI i &&& 31)) &&& 1 = nI (m / 2 ^ i % 2)) m hm i hi
theorem gb_on5 {m : Nat} (hm : m < 32) : gb_onN m 5 = gb_on m := (by decide +kernel : ∀ m, m < 32 → gb_onN m 5 = gb_on m) m hm
theorem gb_ones {post : Int32 → Prop} {m : Nat} (hm : m < 32) (H : post (nI (gb_on m))) : wpX_ones post () (nI m) :=
  pk_loop (fun n i s => wX_ones_4 post (nI m) n s (nI i)) (fun i s => s = nI (gb_onN m i)) 5 0 0 (by omega) rfl
    (fun n s h => pk_le 5 5 (fun _ => by rw [h, gb_on5 hm]; exact H) (fun z => absurd z (by omega)))
    (fun n i s hi h hw => pk_le 5 i (fun z => absurd z (by omega)) (fun _ => nm_r (e' := nI (gb_onN m (i + 1))) (by rw [h, gb_obit hm hi, nI_add]; rfl) (nm_r (nI_1 i) (hw _ rfl))))
/-! ===== arrange ===== -/
def gb_kd (K : Bool) : Int32 := if K then 1 else 0
def gb_sel (K : Bool) (d m : Nat) : Bool := if K then d == 0 else gb_on m == d
def gb_ct (K : Bool) (d m : Nat) : Nat := if K then (if d = 0 then m else 32) else ((List.range 32).filter (fun x => decide (gb_on x < d) || (gb_on x == d && decide (x < m)))).length
theorem gb_ct1 (K : Bool) {d m : Nat} (hd : d < 6) (hm : m < 32) (h : gb_sel K d m = true) : gb_ct K d m < 32 ∧ gb_M K (gb_ct K d m) = m ∧ gb_ct K d (m + 1) = gb_ct K d m + 1 := (by cases K <;> decide +kernel : ∀ d, d < 6 → ∀ m, m < 32 → gb_sel K d m = true → gb_ct K d m < 32 ∧ gb_M K (gb_ct K d m) = m ∧ gb_ct K d (m + 1) = gb_ct K d m + 1) d hd m hm h
theorem gb_ct2 (K : Bool) {d m : Nat} (hd : d < 6) (hm : m < 32) (h : gb_sel K d m = false) : gb_ct K d (m + 1) = gb_ct K d m := (by cases K <;> decide +kernel : ∀ d, d < 6 → ∀ m, m < 32 → gb_sel K d m = false → gb_ct K d (m + 1) = gb_ct K d m) d hd m hm h
theorem gb_ct3 (K : Bool) {d : Nat} (hd : d < 6) : gb_ct K (d + 1) 0 = gb_ct K d 32 := (by cases K <;> decide +kernel : ∀ d, d < 6 → gb_ct K (d + 1) 0 = gb_ct K d 32) d hd
theorem gb_ct0 (K : Bool) : gb_ct K 0 0 = 0 := by cases K <;> decide +kernel
theorem gb_ct5 (K : Bool) : gb_ct K 6 0 = 32 := by cases K <;> decide +kernel
def gb_ar (K : Bool) (c : Nat) (a3 a4 : Nat → Int32) : Prop := ∀ j, j < c → a4 j = nI (gb_M K j) ∧ a3 (gb_M K j) = nI j
theorem gb_ar_tab {K : Bool} {a3 a4 : Nat → Int32} (h : gb_ar K 32 a3 a4) : gb_tab K a3 a4 := by
  refine ⟨fun j hj => ?_, fun j hj => (h j hj).1⟩
  have t := (h (gb_P K j) (gb_Plt K hj)).2
  rw [gb_MP K hj] at t
  exact t
theorem gb_ar_add {K : Bool} {c m : Nat} {a3 a4 : Nat → Int32} (h : gb_ar K c a3 a4) (hc : c < 32) (hm : gb_M K c = m) : gb_ar K (c + 1) (upd a3 m (nI c)) (upd a4 c (nI m)) := by
  intro j hj
  by_cases e : j = c
  · rw [e, hm, pk_us, pk_us]
    exact ⟨rfl, rfl⟩
  · have hn : gb_M K j ≠ m := by
      intro z
      apply e
      rw [← gb_PM K (show j < 32 by omega), z, ← hm, gb_PM K hc]
    rw [pk_un e, pk_un hn]
    exact h j (by omega)
section
variable {post : St2 → Prop} {J4 : Int32 → Int32 → (Nat → Int32) → (Nat → Int32) → (Nat → Int32) → (Nat → Int32) → (Nat → Int32) → (Nat → Int32) → (Nat → Int32) → (Nat → Int32) → (Nat → Int32) → Prop} {fk fw : Int32} {a1 a2 a3 a4 a5 a6 a7 a8 a9 : Nat → Int32}
theorem gb_arr40 {J11 : Int32 → Int32 → (Nat → Int32) → (Nat → Int32) → (Nat → Int32) → (Nat → Int32) → (Nat → Int32) → (Nat → Int32) → (Nat → Int32) → (Nat → Int32) → (Nat → Int32) → Prop} {K : Bool} {d i : Nat} (hs : gb_sel K d i = true) (hd : d < 6) (hi : i < 32) (h : gb_ar K (gb_ct K d i) a3 a4) (hw : ∀ a3' a4', gb_ar K (gb_ct K d (i + 1)) a3' a4' → J11 (nI (gb_ct K d (i + 1))) (nI (i + 1)) a1 a2 a3' a4' a5 a6 a7 a8 a9) : wX_arrange_40 post J4 J11 (nI (gb_ct K d i)) (nI d) (nI i) fk fw a1 a2 a3 a4 a5 a6 a7 a8 a9 := by
  obtain ⟨h1, h2, h3⟩ := gb_ct1 K hd hi hs
  rw [h3] at hw
  generalize gb_ct K d i = c at *
  have t := hw _ _ (gb_ar_add h h1 h2)
  unfold wX_arrange_40
  rw [nI_clamp (show i < 2 ^ 31 by omega), nI_clamp (show c < 2 ^ 31 by omega)]
  exact ⟨pk_in i 32 hi, nm_e ⟨pk_in c 32 h1, nm_e (nm_r (nI_1 c) (nm_r (nI_1 i) t))⟩⟩
theorem gb_arr11 {K : Bool} {d : Nat} (hd : d < 6) (h : gb_ar K (gb_ct K d 0) a3 a4) (H : ∀ a3' a4', gb_ar K (gb_ct K (d + 1) 0) a3' a4' → J4 (nI (gb_ct K (d + 1) 0)) (nI (d + 1)) a1 a2 a3' a4' a5 a6 a7 a8 a9) : ∃ n, wX_arrange_11 post J4 (nI d) (gb_kd K) fw n (nI (gb_ct K d 0)) 0 a1 a2 a3 a4 a5 a6 a7 a8 a9 := by
  refine pk_loop (σ := (Nat → Int32) × (Nat → Int32)) (fun n i s => wX_arrange_11 post J4 (nI d) (gb_kd K) fw n (nI (gb_ct K d i)) (nI i) a1 a2 s.1 s.2 a5 a6 a7 a8 a9) (fun i s => gb_ar K (gb_ct K d i) s.1 s.2) 32 0 (a3, a4) (by omega) h ?_ ?_
  · intro n s h
    rw [gb_ct3 K hd] at H
    exact pk_le 32 32 (fun _ => nm_r (nI_1 d) (H _ _ h)) (fun z => absurd z (by omega))
  · intro n i s hi h hw
    have hw' : ∀ a3' a4', gb_ar K (gb_ct K d (i + 1)) a3' a4' → wX_arrange_11 post J4 (nI d) (gb_kd K) fw n (nI (gb_ct K d (i + 1))) (nI (i + 1)) a1 a2 a3' a4' a5 a6 a7 a8 a9 := fun a3' a4' z => hw (a3', a4') z
    refine pk_le 32 i (fun z => absurd z (by omega)) (fun _ => ?_)
    cases K with
    | true =>
      refine br_t rfl (pk_eq d 0 (fun e => ?_) (fun e => ?_))
      · exact gb_arr40 (K := true) (by rw [e]; rfl) hd hi h hw'
      · have e2 : gb_sel true d i = false := by
          show (d == 0) = false
          simp [e]
        have t := hw' s.1 s.2 (by rw [gb_ct2 true hd hi e2]; exact h)
        rw [gb_ct2 true hd hi e2] at t
        exact nm_r (nI_1 i) t
    | false =>
      refine br_f (by decide) (gb_ones hi ?_)
      have ho : gb_on i < 2 ^ 31 := by
        unfold gb_on
        omega
      refine pk_eq (gb_on i) d (fun e => ?_) (fun e => ?_)
      · exact gb_arr40 (K := false) (by show (gb_on i == d) = true; simp [e]) hd hi h hw'
      · have e2 : gb_sel false d i = false := by
          show (gb_on i == d) = false
          simp [e]
        have t := hw' s.1 s.2 (by rw [gb_ct2 false hd hi e2]; exact h)
        rw [gb_ct2 false hd hi e2] at t
        exact nm_r (nI_1 i) t
theorem gb_arr {K : Bool} (H : ∀ a3' a4', gb_tab K a3' a4' → post (gb_kd K, fw, a1, a2, a3', a4', a5, a6, a7, a8, a9)) : wpX_arrange post (gb_kd K, fw, a1, a2, a3, a4, a5, a6, a7, a8, a9) := by
  have t : ∃ n, wX_arrange_4 post (gb_kd K) fw n (nI (gb_ct K 0 0)) (nI 0) a1 a2 a3 a4 a5 a6 a7 a8 a9 := by
    refine pk_loop (σ := (Nat → Int32) × (Nat → Int32)) (fun n i s => wX_arrange_4 post (gb_kd K) fw n (nI (gb_ct K i 0)) (nI i) a1 a2 s.1 s.2 a5 a6 a7 a8 a9) (fun i s => gb_ar K (gb_ct K i 0) s.1 s.2) 6 0 (a3, a4) (by omega) ?_ ?_ ?_
    · show gb_ar K (gb_ct K 0 0) a3 a4
      rw [gb_ct0]
      exact fun j hj => absurd hj (by omega)
    · intro n s h
      have h : gb_ar K (gb_ct K 6 0) s.1 s.2 := h
      rw [gb_ct5] at h
      exact pk_lt 5 6 (fun _ => H _ _ (gb_ar_tab h)) (fun z => absurd z (by omega))
    · intro n i s hi h hw
      exact pk_lt 5 i (fun z => absurd z (by omega)) (fun _ => gb_arr11 hi h (fun a3' a4' z => hw (a3', a4') z))
  rw [gb_ct0] at t
  exact t
end
/-! ===== highest ===== -/
theorem gb_high {post : Int32 → Prop} {x : Int32} (H : post (nI (gb_hi x))) : wpX_highest post () x := by
  have t : ∀ p, p < 32 → post (nI (gb_hiN x p)) → wX_highest_3 post x (p + 1) (nI p) := by
    intro p
    induction p with
    | zero => intro _ h; exact pk_le 0 0 (fun _ => h) (fun z => absurd z (by omega))
    | succ p ih =>
      intro hp h
      refine pk_le (p + 1) 0 (fun z => absurd z (by omega)) (fun _ => ek_if (gb_b0 x hp) (fun hb => ?_) (fun hb => ?_))
      · refine nm_r (pk_m1 p) (ih (by omega) ?_)
        unfold gb_hiN at h
        rw [hb] at h
        exact h
      · unfold gb_hiN at h
        rw [show bt x (p + 1) = true by cases e : bt x (p + 1) with | true => rfl | false => exact absurd e hb] at h
        exact h
  exact ⟨32, t 31 (by omega) H⟩
/-! ===== valueAt ===== -/
def gb_vlN (x : Int32) (q : Nat) : Nat → Bool
  | 0 => false
  | n + 1 => gb_vlN x q n ^^ (bt x n && decide (n ||| q = q))
def gb_vl (x : Int32) (q : Nat) : Bool := gb_vlN x q 32
theorem gb_val {post : Int32 → Prop} {x : Int32} {q : Nat} (hq : q < 32) (H : post (gb_i (gb_vl x q))) : wpX_valueAt post () x (nI q) := by
  refine pk_loop (fun n i s => wX_valueAt_4 post x (nI q) n s (nI i)) (fun i s => s = gb_i (gb_vlN x q i)) 32 0 0 (by omega) rfl ?_ ?_
  · intro n s h
    exact pk_le 32 32 (fun _ => by rw [h]; exact H) (fun z => absurd z (by omega))
  · intro n i s hi h hw
    refine pk_le 32 i (fun z => absurd z (by omega)) (fun _ => ek_if (gb_b1 x hi) (fun hb => ek_if (gb_ndv hi hq) (fun hd => ?_) (fun hd => ?_)) (fun hb => ?_))
    · refine nm_e (nm_r (nI_1 i) (hw _ ?_))
      have e : gb_vlN x q (i + 1) = !gb_vlN x q i := by
        show (gb_vlN x q i ^^ (bt x i && decide (i ||| q = q))) = _
        rw [hb, decide_eq_true (show i ||| q = q from hd)]
        simp
      rw [e, h]
      cases gb_vlN x q i <;> decide
    · refine nm_r (nI_1 i) (hw _ ?_)
      have e : gb_vlN x q (i + 1) = gb_vlN x q i := by
        show (gb_vlN x q i ^^ (bt x i && decide (i ||| q = q))) = _
        rw [decide_eq_false (show ¬ i ||| q = q from hd)]
        simp
      rw [e, h]
    · refine nm_r (nI_1 i) (hw _ ?_)
      have e : gb_vlN x q (i + 1) = gb_vlN x q i := by
        show (gb_vlN x q i ^^ (bt x i && decide (i ||| q = q))) = _
        rw [show bt x i = false by cases e : bt x i with | false => rfl | true => exact absurd e hb]
        simp
      rw [e, h]
/-! ===== inOrder, outOfOrder, times ===== -/
def gb_ioN (K : Bool) (x : Int32) : Nat → Int32
  | 0 => 0
  | n + 1 => gb_ioN K x n ||| ((((x.toUInt32 >>> ((nI n).toUInt32 &&& Int32.toUInt32 31)).toInt32) &&& 1) <<< (nI (gb_P K n) &&& 31))
def gb_io (K : Bool) (x : Int32) : Int32 := gb_ioN K x 32
theorem gb_oz {i m : Nat} (hi : i < 32) (hm : m < 32) : (0 : Int32) ||| (((((0 : Int32).toUInt32 >>> ((nI i).toUInt32 &&& Int32.toUInt32 31)).toInt32) &&& 1) <<< (nI m &&& 31)) = 0 := (by decide +kernel : ∀ i, i < 32 → ∀ m, m < 32 → (0 : Int32) ||| (((((0 : Int32).toUInt32 >>> ((nI i).toUInt32 &&& Int32.toUInt32 31)).toInt32) &&& 1) <<< (nI m &&& 31)) = 0) i hi m hm
section
variable {post : Int32 → Prop} {fk fw : Int32} {a1 a2 a3 a4 a5 a6 a7 a8 a9 : Nat → Int32} {K : Bool}
theorem gb_inO (ht : gb_tab K a3 a4) {x : Int32} (H : post (gb_io K x)) : wpX_inOrder post (fk, fw, a1, a2, a3, a4, a5, a6, a7, a8, a9) x := by
  refine pk_loop (fun n i s => wX_inOrder_4 post x fk fw a1 a2 a3 a4 a5 a6 a7 a8 a9 n s (nI i)) (fun i s => s = gb_ioN K x i) 32 0 0 (by omega) rfl ?_ ?_
  · intro n s h
    exact pk_le 32 32 (fun _ => by rw [h]; exact H) (fun z => absurd z (by omega))
  · intro n i s hi h hw
    refine pk_le 32 i (fun z => absurd z (by omega)) (fun _ => ⟨pk_in i 32 hi, nm_r (e' := gb_ioN K x (i + 1)) ?_ (nm_r (nI_1 i) (hw _ rfl))⟩)
    rw [h, nI_clamp (show i < 2 ^ 31 by omega), ht.1 i hi]
    rfl
theorem gb_outO (ht : gb_tab K a3 a4) (H : post 0) : wpX_outOfOrder post (fk, fw, a1, a2, a3, a4, a5, a6, a7, a8, a9) 0 := by
  refine pk_loop (fun n i s => wX_outOfOrder_4 post 0 fk fw a1 a2 a3 a4 a5 a6 a7 a8 a9 n s (nI i)) (fun i s => s = 0) 32 0 0 (by omega) rfl ?_ ?_
  · intro n s h
    exact pk_le 32 32 (fun _ => by rw [h]; exact H) (fun z => absurd z (by omega))
  · intro n i s hi h hw
    refine pk_le 32 i (fun z => absurd z (by omega)) (fun _ => ⟨pk_in i 32 hi, nm_r (e' := 0) ?_ (nm_r (nI_1 i) (hw _ rfl))⟩)
    rw [h, nI_clamp (show i < 2 ^ 31 by omega), ht.2 i hi]
    exact gb_oz hi (gb_Mlt K hi)
theorem gb_times (ht : gb_tab K a3 a4) {x : Int32} {m : Nat} (hm : m < 32) (H : post (gb_tm K x m)) : wpX_times post (fk, fw, a1, a2, a3, a4, a5, a6, a7, a8, a9) x (nI m) := by
  refine pk_loop (fun n i s => wX_times_5 post x (nI m) fk fw a1 a2 a3 a4 a5 a6 a7 a8 a9 n s (nI i)) (fun i s => s = gb_tmN K x m i) 32 0 0 (by omega) rfl ?_ ?_
  · intro n s h
    exact pk_le 32 32 (fun _ => by rw [h]; exact H) (fun z => absurd z (by omega))
  · intro n i s hi h hw
    have ho := gb_or (gb_Mlt K hi) hm
    have A : a4 (nI i).toNatClampNeg ||| nI m = nI (gb_M K i ||| m) := by rw [nI_clamp (show i < 2 ^ 31 by omega), ht.2 i hi, gb_nor]
    refine pk_le 32 i (fun z => absurd z (by omega)) (fun _ => ek_if (gb_b1 x hi) (fun hb => ⟨pk_in i 32 hi, pk_in (gb_M K i ||| m) 32 ho A, nm_r (e' := gb_tmN K x m (i + 1)) ?_ (nm_r (nI_1 i) (hw _ rfl))⟩) (fun hb => nm_r (nI_1 i) (hw _ ?_)))
    · rw [h, A, nI_clamp (show gb_M K i ||| m < 2 ^ 31 by omega), ht.1 _ ho]
      conv => rhs; unfold gb_tmN
      rw [hb]
      rfl
    · rw [h]
      conv => rhs; unfold gb_tmN
      rw [show bt x i = false by cases e : bt x i with | false => rfl | true => exact absurd e hb]
      rfl
end
end
section
/-! ===== reduce, enter, reduceTail ===== -/
/-- no leading monomial divides place q -/
def gb_nd (K : Bool) (a5 : Nat → Int32) (n q : Nat) : Prop := ∀ i, i < n → ¬ gb_dv (gb_L K (a5 i)) (gb_M K q)
theorem gb_tru {b : Bool} (h : ¬ b = true) : b = false := by
  cases b
  · rfl
  · exact absurd rfl h
theorem gb_fls {b : Bool} (h : ¬ b = false) : b = true := by
  cases b
  · exact absurd rfl h
  · rfl
section
variable {fk : Int32} {a1 a2 a3 a4 a5 a6 a7 a8 a9 : Nat → Int32} {K : Bool} {n : Nat}
theorem gb_red12 {post : Int32 → Prop} {J5 : Int32 → Int32 → Prop} (ht : gb_tab K a3 a4) (hn : n ≤ 40) (hG : ∀ i, i < n → a5 i ≠ 0 ∧ a6 i = nI (gb_L K (a5 i))) (I : Int32 → Prop) {p : Nat} (hp : p < 32)
    (hI : ∀ y i, i < n → bt y p = true → gb_dv (gb_L K (a5 i)) (gb_M K p) → I y → I (y ^^^ gb_tm K (a5 i) (gb_df (gb_M K p) (gb_L K (a5 i)))))
    {x : Int32} (hx : I x) (hup : ∀ q, p < q → q < 32 → bt x q = true → gb_nd K a5 n q)
    (H : ∀ y, I y → (∀ q, p ≤ q → q < 32 → bt y q = true → gb_nd K a5 n q) → J5 y (nI p + (-1))) :
    ∃ m, wX_reduce_12 post J5 (nI p) fk (nI n) a1 a2 a3 a4 a5 a6 a7 a8 a9 m x 0 := by
  have fin : ∀ y, I y → (∀ q, p < q → q < 32 → bt y q = true → gb_nd K a5 n q) → (bt y p = true → gb_nd K a5 n p) → J5 y (nI p + (-1)) := by
    intro y h1 h2 h3
    refine H y h1 (fun q hq hq2 hb => ?_)
    by_cases e : q = p
    · rw [e] at hb ⊢
      exact h3 hb
    · exact h2 q (by omega) hq2 hb
  refine pk_loop (fun m i s => wX_reduce_12 post J5 (nI p) fk (nI n) a1 a2 a3 a4 a5 a6 a7 a8 a9 m s (nI i)) (fun i s => I s ∧ (∀ q, p < q → q < 32 → bt s q = true → gb_nd K a5 n q) ∧ (bt s p = true → ∀ j, j < i → ¬ gb_dv (gb_L K (a5 j)) (gb_M K p))) n 0 x (by omega) ⟨hx, hup, fun _ j hj => absurd hj (by omega)⟩ ?_ ?_
  · intro m s h
    exact pk_le n n (fun _ => nm_e (fin s h.1 h.2.1 h.2.2)) (fun z => absurd z (by omega))
  · intro m i s hi h hw
    have A : a6 (nI i).toNatClampNeg = nI (gb_L K (a5 i)) := by rw [nI_clamp (show i < 2 ^ 31 by omega)]; exact (hG i hi).2
    have B : a4 (nI p).toNatClampNeg = nI (gb_M K p) := by rw [nI_clamp (show p < 2 ^ 31 by omega)]; exact ht.2 p hp
    have E : (a6 (nI i).toNatClampNeg &&& (a4 (nI p).toNatClampNeg ^^^ (-1))) = 0 ↔ gb_dv (gb_L K (a5 i)) (gb_M K p) := by rw [A, B]; exact gb_ndv (gb_L_lt K _) (gb_Mlt K hp)
    refine pk_le n i (fun z => absurd z (by omega)) (fun _ => ek_if (gb_b1 s hp) (fun hb => ⟨pk_in i 40 (by omega), pk_in p 32 hp, ek_if E (fun hd => ⟨pk_in i 40 (by omega), pk_in p 32 hp, pk_in i 40 (by omega), ?_⟩) (fun hd => nm_r (nI_1 i) (hw _ ⟨h.1, h.2.1, fun hb j hj => ?_⟩))⟩) (fun hb => nm_e (fin s h.1 h.2.1 (fun z => absurd z hb))))
    · obtain ⟨s1, s2, s3, s4, s5⟩ := gb_stp (K := K) (hG i hi).1 hp hd
      rw [A, B, gb_ndf (gb_Mlt K hp) (gb_L_lt K _), nI_clamp (show i < 2 ^ 31 by omega)]
      refine gb_times ht s4 (nm_e (nm_r (nI_1 i) (hw _ ⟨hI s i hi hb hd h.1, fun q hq hq2 hb2 => ?_, fun hb2 => ?_⟩)))
      · rw [b_xor, s2 q hq hq2, Bool.xor_false] at hb2
        exact h.2.1 q hq hq2 hb2
      · rw [b_xor, s1, hb] at hb2
        exact absurd hb2 (by decide)
    · by_cases e : j = i
      · rw [e]
        exact hd
      · exact h.2.2 hb j (by omega)
theorem gb_red {post : Int32 → Prop} (ht : gb_tab K a3 a4) (hn : n ≤ 40) (hG : ∀ i, i < n → a5 i ≠ 0 ∧ a6 i = nI (gb_L K (a5 i))) (I : Int32 → Prop)
    (hI : ∀ y p i, p < 32 → i < n → bt y p = true → gb_dv (gb_L K (a5 i)) (gb_M K p) → I y → I (y ^^^ gb_tm K (a5 i) (gb_df (gb_M K p) (gb_L K (a5 i)))))
    {x : Int32} (hx : I x) (H : ∀ r, I r → (∀ q, q < 32 → bt r q = true → gb_nd K a5 n q) → post r) :
    wpX_reduce post (fk, nI n, a1, a2, a3, a4, a5, a6, a7, a8, a9) x := by
  have t : wX_reduce_5 post fk (nI n) a1 a2 a3 a4 a5 a6 a7 a8 a9 (32 + 1) x (nI 32 + (-1)) := by
    refine pk_loopD (fun m c s => wX_reduce_5 post fk (nI n) a1 a2 a3 a4 a5 a6 a7 a8 a9 m s (nI c + (-1))) (fun c s => c ≤ 32 ∧ I s ∧ ∀ q, c ≤ q → q < 32 → bt s q = true → gb_nd K a5 n q) ?_ ?_ 32 x ⟨by omega, hx, fun q h1 h2 => absurd h1 (by omega)⟩
    · intro m s h
      exact br_t (by decide) (H s h.2.1 (fun q hq => h.2.2 q (by omega) hq))
    · intro m c s h hw
      show wX_reduce_5 post fk (nI n) a1 a2 a3 a4 a5 a6 a7 a8 a9 (m + 1) s (nI (c + 1) + (-1))
      rw [pk_m1]
      refine br_f (nI_pos (by omega)) (gb_red12 ht hn hG I (by omega) (fun y i => hI y c i (by omega)) h.2.1 (fun q hq => h.2.2 q (by omega)) (fun y hy hq => hw y ⟨by omega, hy, hq⟩))
  exact ⟨32 + 1, t⟩
theorem gb_ent {post : Int32 → St2 → Prop} (ht : gb_tab K a3 a4) {f : Int32} (hok : gb_ok K f n a5 a6) {N : Nat} {x : Int32} (hb : gb_bd K N x) (hN : N ≤ 400)
    (H0 : gb_sp K a5 n N x → post 0 (fk, nI n, a1, a2, a3, a4, a5, a6, a7, a8, a9))
    (H1 : ∀ r, gb_ok K f (n + 1) (upd a5 n r) (upd a6 n (nI (gb_L K r))) → gb_sp K (upd a5 n r) (n + 1) 400 x → post 1 (fk, nI (n + 1), a1, a2, a3, a4, upd a5 n r, upd a6 n (nI (gb_L K r)), a7, a8, a9)) :
    wpX_enter post (fk, nI n, a1, a2, a3, a4, a5, a6, a7, a8, a9) x := by
  have hn := gb_ok_n hok
  refine gb_red ht (by omega) hok.1 (fun y => gb_sp K a5 n N (x ^^^ y) ∧ gb_bd K N y) ?_ ⟨by rw [gb_xs]; exact gb_sp_0 _ _ _ _, hb⟩ ?_
  · intro y p i hp hi hbp hd h
    obtain ⟨s1, s2, s3, s4, s5⟩ := gb_stp (K := K) (hok.1 i hi).1 hp hd
    have hw := h.2 p hp hbp
    refine ⟨?_, gb_bd_add h.2 (gb_bd_tm s4 (by omega))⟩
    rw [← Int32.xor_assoc]
    exact gb_sp_add h.1 (gb_sp_gen hi s4 s5 (by omega))
  · intro r h hnd
    by_cases e : r = 0
    · refine br_t e (H0 ?_)
      have t := h.1
      rw [e, gb_x0] at t
      exact t
    · refine br_f e (pk_eq n 40 (fun z => absurd z (by omega)) (fun _ => ⟨pk_in n 40 (by omega), nm_e (gb_high ⟨pk_in (gb_hi r) 32 (gb_hi_lt r), pk_in n 40 (by omega), nm_e (nm_r (nI_1 n) ?_)⟩)⟩))
      have hh := gb_hi_lt r
      rw [nI_clamp (show n < 2 ^ 31 by omega), nI_clamp (show gb_hi r < 2 ^ 31 by omega), ht.2 _ hh]
      refine H1 r (gb_ok_add hok e (hnd _ hh (gb_hi_at e))) ?_
      have t1 : gb_sp K (upd a5 n r) (n + 1) 400 (x ^^^ r) := gb_sp_ext (gb_sp_mono h.1 hN) (by omega) (fun i hi => pk_un (by omega))
      have t2 : gb_sp K (upd a5 n r) (n + 1) 400 (gb_tm K (upd a5 n r n) 0) := by
        refine gb_sp_gen (by omega) (by omega) (Nat.zero_and _) ?_
        have t := gb_w2 K (gb_L_lt K (upd a5 n r n))
        rw [gb_w0]
        omega
      rw [gb_tm_1, pk_us] at t2
      have t := gb_sp_add t1 t2
      rw [gb_xx] at t
      exact t
theorem gb_self {f : Int32} (hok : gb_ok K f n a5 a6) {i : Nat} (hi : i < n) : gb_sp K a5 n 400 (a5 i) := by
  have t2 : gb_sp K a5 n 400 (gb_tm K (a5 i) 0) := by
    refine gb_sp_gen hi (by omega) (Nat.zero_and _) ?_
    have t := gb_w2 K (gb_L_lt K (a5 i))
    rw [gb_w0]
    omega
  rw [gb_tm_1] at t2
  exact t2
theorem gb_tail {g : Int32} (hg : g ≠ 0) : g &&& (gb_e (gb_hi g) ^^^ (-1)) = g ^^^ gb_e (gb_hi g) := by
  apply b_ext
  intro q hq
  rw [b_and, b_xor, b_xor, gb_be (gb_hi_lt g) hq, b_m1 q hq]
  by_cases e : q = gb_hi g
  · rw [e, gb_hi_at hg, decide_eq_true rfl]
    rfl
  · rw [decide_eq_false e]
    simp
theorem gb_rt {post : Int32 → Prop} (ht : gb_tab K a3 a4) {f : Int32} (hok : gb_ok K f n a5 a6) {i : Nat} (hi : i < n)
    (H : ∀ r, r ≠ 0 → gb_L K r = gb_L K (a5 i) → gb_sp K a5 n 400 r → post r) :
    wpX_reduceTail post (fk, nI n, a1, a2, a3, a4, a5, a6, a7, a8, a9) (nI i) := by
  have hn := gb_ok_n hok
  have hg := (hok.1 i hi).1
  have hs := gb_self hok hi
  have hh := gb_hi_lt (a5 i)
  refine ⟨pk_in i 40 (by omega), ?_⟩
  rw [nI_clamp (show i < 2 ^ 31 by omega)]
  refine gb_high (nm_e ⟨pk_in i 40 (by omega), ?_⟩)
  show wpX_reduce (fun r_5 => post (gb_e (gb_hi (a5 i)) ||| r_5)) (fk, nI n, a1, a2, a3, a4, a5, a6, a7, a8, a9) (a5 i &&& (gb_e (gb_hi (a5 i)) ^^^ (-1)))
  rw [gb_tail hg]
  generalize hgg : a5 i = g at *
  refine gb_red ht (by omega) hok.1 (fun y => gb_sp K a5 n 400 ((g ^^^ gb_e (gb_hi g)) ^^^ y) ∧ ∀ q, gb_hi g ≤ q → q < 32 → bt y q = false) ?_ ⟨by rw [gb_xs]; exact gb_sp_0 _ _ _ _, ?_⟩ ?_
  · intro y p j hp hj hbp hd h
    obtain ⟨s1, s2, s3, s4, s5⟩ := gb_stp (K := K) (hok.1 j hj).1 hp hd
    have hw := gb_w2 K (gb_Mlt K hp)
    refine ⟨?_, fun q hq hq2 => ?_⟩
    · rw [← Int32.xor_assoc]
      exact gb_sp_add h.1 (gb_sp_gen hj s4 s5 (by omega))
    · have hpq : p < q := by
        rcases Nat.lt_or_ge p (gb_hi g) with z | z
        · omega
        · rw [h.2 p z hp] at hbp
          exact absurd hbp (by decide)
      rw [b_xor, h.2 q hq hq2, s2 q hpq hq2]
      rfl
  · intro q hq hq2
    rw [b_xor, gb_be hh hq2]
    by_cases e : q = gb_hi g
    · rw [e, gb_hi_at hg, decide_eq_true rfl]
      rfl
    · rw [gb_hi_up (by omega) hq2, decide_eq_false e]
      rfl
  · intro r h hnd
    have e1 : gb_e (gb_hi g) ||| r = g ^^^ ((g ^^^ gb_e (gb_hi g)) ^^^ r) := by
      rw [show g ^^^ ((g ^^^ gb_e (gb_hi g)) ^^^ r) = (gb_e (gb_hi g) ^^^ r) ^^^ (g ^^^ g) by ac_rfl, gb_xs, gb_x0]
      apply b_ext
      intro q hq
      rw [b_or, b_xor, gb_be hh hq]
      by_cases e : q = gb_hi g
      · rw [h.2 q (by omega) hq, decide_eq_true e]
        rfl
      · rw [decide_eq_false e]
        simp
    have hb : bt (gb_e (gb_hi g) ||| r) (gb_hi g) = true := by
      rw [b_or, gb_be hh hh, decide_eq_true rfl]
      rfl
    have hi2 : gb_hi (gb_e (gb_hi g) ||| r) = gb_hi g := by
      refine gb_hi_eq hh hb (fun q hq hq2 => ?_)
      rw [b_or, gb_be hh hq2, decide_eq_false (by omega), h.2 q (by omega) hq2]
      rfl
    refine H _ (fun z => ?_) ?_ ?_
    · rw [z, b_0] at hb
      exact absurd hb (by decide)
    · unfold gb_L
      rw [hi2]
    · rw [e1]
      exact gb_sp_add hs h.1
end
end
section
/-! ===== tryVariables, tryPairs ===== -/
def gb_V1 (K : Bool) (G : Nat → Int32) (n i v : Nat) : Prop := 2 ^ v &&& gb_L K (G i) ≠ 0 → gb_sp K G n (gb_w K (2 ^ v) + gb_w K (gb_L K (G i))) (gb_tm K (G i) (2 ^ v))
def gb_S1 (K : Bool) (G : Nat → Int32) (n i j : Nat) : Prop := gb_sp K G n (gb_w K (gb_L K (G i) ||| gb_L K (G j))) (gb_pr K (G i) (G j))
/-- either nothing was entered and C holds of the old list, or something was -/
def gb_R (K : Bool) (f : Int32) (n0 : Nat) (g0 l0 : Nat → Int32) (C : Prop) (x1 : Int32) (n : Nat) (a5 a6 : Nat → Int32) : Prop := gb_ok K f n a5 a6 ∧ ((x1 = 0 ∧ n = n0 ∧ a5 = g0 ∧ a6 = l0 ∧ C) ∨ (x1 = 1 ∧ n0 < n))
theorem gb_R_imp {K : Bool} {f : Int32} {n0 : Nat} {g0 l0 : Nat → Int32} {C C' : Prop} {x1 : Int32} {n : Nat} {a5 a6 : Nat → Int32} (h : gb_R K f n0 g0 l0 C x1 n a5 a6) (hC : n = n0 → a5 = g0 → C → C') : gb_R K f n0 g0 l0 C' x1 n a5 a6 := by
  refine ⟨h.1, ?_⟩
  rcases h.2 with ⟨e1, e2, e3, e4, c⟩ | z
  · exact Or.inl ⟨e1, e2, e3, e4, hC e2 e3 c⟩
  · exact Or.inr z
/-- what follows an enter -/
theorem gb_R_after {K : Bool} {f : Int32} {n0 : Nat} {g0 l0 : Nat → Int32} {C C' : Prop} {x1 : Int32} {n : Nat} {a5 a6 : Nat → Int32} {W : Int32 → Nat → (Nat → Int32) → (Nat → Int32) → Prop} {r : Int32} (h : gb_R K f n0 g0 l0 C x1 n a5 a6) (hr : r = 0) (hC : n = n0 → a5 = g0 → C → C') (H : ∀ x1' n' a5' a6', gb_R K f n0 g0 l0 C' x1' n' a5' a6' → n ≤ n' → W x1' n' a5' a6') : (x1 = 0 → ((r = 0 → W 0 n a5 a6) ∧ (¬ r = 0 → W 1 n a5 a6))) ∧ (¬ x1 = 0 → W 1 n a5 a6) := by
  have hk := h.1
  rcases h.2 with ⟨e1, e2, e3, e4, c⟩ | ⟨e1, e2⟩
  · exact br_t e1 (br_t hr (H 0 n a5 a6 ⟨hk, Or.inl ⟨rfl, e2, e3, e4, hC e2 e3 c⟩⟩ (Nat.le_refl _)))
  · exact br_f (by rw [e1]; decide) (H 1 n a5 a6 ⟨hk, Or.inr ⟨rfl, e2⟩⟩ (Nat.le_refl _))
theorem gb_R_after1 {K : Bool} {f : Int32} {n0 : Nat} {g0 l0 : Nat → Int32} {C C' : Prop} {x1 : Int32} {n : Nat} {a5 a6 b5 b6 : Nat → Int32} {W : Int32 → Nat → (Nat → Int32) → (Nat → Int32) → Prop} {r : Int32} (h : gb_R K f n0 g0 l0 C x1 n a5 a6) (hr : r = 1) (hk : gb_ok K f (n + 1) b5 b6) (H : ∀ x1' n' a5' a6', gb_R K f n0 g0 l0 C' x1' n' a5' a6' → n ≤ n' → W x1' n' a5' a6') : (x1 = 0 → ((r = 0 → W 0 (n + 1) b5 b6) ∧ (¬ r = 0 → W 1 (n + 1) b5 b6))) ∧ (¬ x1 = 0 → W 1 (n + 1) b5 b6) := by
  have hr' : ¬ r = 0 := by rw [hr]; decide
  rcases h.2 with ⟨e1, e2, e3, e4, c⟩ | ⟨e1, e2⟩
  · exact br_t e1 (br_f hr' (H 1 (n + 1) b5 b6 ⟨hk, Or.inr ⟨rfl, by omega⟩⟩ (by omega)))
  · exact br_f (by rw [e1]; decide) (H 1 (n + 1) b5 b6 ⟨hk, Or.inr ⟨rfl, by omega⟩⟩ (by omega))
theorem gb_vb {L v : Nat} (hL : L < 32) (hv : v < 5) : ((nI L >>> (nI v &&& 31)) &&& 1) = 1 ↔ 2 ^ v &&& L ≠ 0 := (by decide +kernel : ∀ L, L < 32 → ∀ v, v < 5 → (((nI L >>> (nI v &&& 31)) &&& 1) = 1 ↔ 2 ^ v &&& L ≠ 0)) L hL v hv
theorem gb_sh {v : Nat} (hv : v < 5) : (1 : Int32) <<< (nI v &&& 31) = nI (2 ^ v) := (by decide +kernel : ∀ v, v < 5 → (1 : Int32) <<< (nI v &&& 31) = nI (2 ^ v)) v hv
section
variable {post : Int32 → St2 → Prop} {J4 : Int32 → Int32 → Int32 → Int32 → (Nat → Int32) → (Nat → Int32) → (Nat → Int32) → (Nat → Int32) → (Nat → Int32) → (Nat → Int32) → (Nat → Int32) → (Nat → Int32) → (Nat → Int32) → Prop} {fk : Int32} {a1 a2 a3 a4 a7 a8 a9 : Nat → Int32} {K : Bool} {f : Int32} {n0 : Nat} {g0 l0 : Nat → Int32}
theorem gb_tv14 (ht : gb_tab K a3 a4) {C : Prop} {i : Nat} {x1 : Int32} {n : Nat} {a5 a6 : Nat → Int32} (hR : gb_R K f n0 g0 l0 C x1 n a5 a6) (hi : i < n)
    (H : ∀ x1' n' a5' a6', gb_R K f n0 g0 l0 (C ∧ ∀ v, v < 5 → gb_V1 K g0 n0 i v) x1' n' a5' a6' → i < n' → J4 x1' (nI (i + 1)) fk (nI n') a1 a2 a3 a4 a5' a6' a7 a8 a9) :
    ∃ m, wX_tryVariables_14 post J4 (nI i) m x1 0 fk (nI n) a1 a2 a3 a4 a5 a6 a7 a8 a9 := by
  refine pk_loop (σ := Int32 × Nat × (Nat → Int32) × (Nat → Int32)) (fun m v s => wX_tryVariables_14 post J4 (nI i) m s.1 (nI v) fk (nI s.2.1) a1 a2 a3 a4 s.2.2.1 s.2.2.2 a7 a8 a9) (fun v s => gb_R K f n0 g0 l0 (C ∧ ∀ u, u < v → gb_V1 K g0 n0 i u) s.1 s.2.1 s.2.2.1 s.2.2.2 ∧ i < s.2.1) 5 0 (x1, n, a5, a6) (by omega) ⟨gb_R_imp hR (fun _ _ c => ⟨c, fun u hu => absurd hu (by omega)⟩), hi⟩ ?_ ?_
  · intro m s h
    exact pk_le 5 5 (fun _ => nm_r (nI_1 i) (H _ _ _ _ h.1 h.2)) (fun z => absurd z (by omega))
  · rintro m v ⟨y1, k, b5, b6⟩ hv ⟨h, hik⟩ hw
    have hik : i < k := hik
    have h : gb_R K f n0 g0 l0 (C ∧ ∀ u, u < v → gb_V1 K g0 n0 i u) y1 k b5 b6 := h
    have hk := gb_ok_n h.1
    have hw' : ∀ x1' n' a5' a6', gb_R K f n0 g0 l0 (C ∧ ∀ u, u < v + 1 → gb_V1 K g0 n0 i u) x1' n' a5' a6' → k ≤ n' → wX_tryVariables_14 post J4 (nI i) m x1' (nI (v + 1)) fk (nI n') a1 a2 a3 a4 a5' a6' a7 a8 a9 := fun x1' n' a5' a6' z hz => hw (x1', n', a5', a6') ⟨z, Nat.lt_of_lt_of_le hik hz⟩
    clear hw
    have add : k = n0 → b5 = g0 → gb_V1 K b5 k i v → (C ∧ ∀ u, u < v → gb_V1 K g0 n0 i u) → (C ∧ ∀ u, u < v + 1 → gb_V1 K g0 n0 i u) := by
      intro e1 e2 z c
      refine ⟨c.1, fun u hu => ?_⟩
      by_cases e : u = v
      · rw [e, ← e1, ← e2]
        exact z
      · exact c.2 u (by omega)
    have A : b6 (nI i).toNatClampNeg = nI (gb_L K (b5 i)) := by rw [nI_clamp (show i < 2 ^ 31 by omega)]; exact (h.1.1 i hik).2
    have E : ((b6 (nI i).toNatClampNeg >>> (nI v &&& 31)) &&& 1) = 1 ↔ 2 ^ v &&& gb_L K (b5 i) ≠ 0 := by rw [A]; exact gb_vb (gb_L_lt K _) hv
    refine pk_le 5 v (fun z => absurd z (by omega)) (fun _ => ⟨pk_in i 40 (by omega), ek_if E (fun hb => ⟨pk_in i 40 (by omega), ?_⟩) (fun hb => nm_r (nI_1 v) (hw' _ _ _ _ (gb_R_imp h (fun e1 e2 c => add e1 e2 (fun z => absurd z hb) c)) (Nat.le_refl _)))⟩)
    show wpX_times _ (fk, nI k, a1, a2, a3, a4, b5, b6, a7, a8, a9) (b5 (nI i).toNatClampNeg) ((1 : Int32) <<< (nI v &&& 31))
    rw [gb_sh hv, nI_clamp (show i < 2 ^ 31 by omega)]
    refine gb_times ht (gb_v32 hv) (gb_ent ht h.1 (gb_bd_V hv hb) ?_ (fun hsp => ?_) (fun r hok _ => ?_))
    · have t1 := gb_w2 K (gb_v32 hv)
      have t2 := gb_w2 K (gb_L_lt K (b5 i))
      omega
    · exact gb_R_after (W := fun x n' a5' a6' => ∀ x3_43 : Int32, x3_43 = nI v + 1 → wX_tryVariables_14 post J4 (nI i) m x x3_43 fk (nI n') a1 a2 a3 a4 a5' a6' a7 a8 a9) h rfl (fun e1 e2 c => add e1 e2 (fun _ => hsp) c) (fun x1' n' a5' a6' z hz => nm_r (nI_1 v) (hw' x1' n' a5' a6' z hz))
    · exact gb_R_after1 (C' := C ∧ ∀ u, u < v + 1 → gb_V1 K g0 n0 i u) (W := fun x n' a5' a6' => ∀ x3_43 : Int32, x3_43 = nI v + 1 → wX_tryVariables_14 post J4 (nI i) m x x3_43 fk (nI n') a1 a2 a3 a4 a5' a6' a7 a8 a9) h rfl hok (fun x1' n' a5' a6' z hz => nm_r (nI_1 v) (hw' x1' n' a5' a6' z hz))
theorem gb_tv (ht : gb_tab K a3 a4) (hok : gb_ok K f n0 g0 l0)
    (H0 : gb_V K g0 n0 → post 0 (fk, nI n0, a1, a2, a3, a4, g0, l0, a7, a8, a9))
    (H1 : ∀ n' a5' a6', n0 < n' → gb_ok K f n' a5' a6' → post 1 (fk, nI n', a1, a2, a3, a4, a5', a6', a7, a8, a9)) :
    wpX_tryVariables post (fk, nI n0, a1, a2, a3, a4, g0, l0, a7, a8, a9) := by
  refine loop_m (σ := Nat × Int32 × Nat × (Nat → Int32) × (Nat → Int32)) (fun m s => wX_tryVariables_4 post m s.2.1 (nI s.1) fk (nI s.2.2.1) a1 a2 a3 a4 s.2.2.2.1 s.2.2.2.2 a7 a8 a9) (fun s => gb_R K f n0 g0 l0 (∀ i, i < s.1 → ∀ v, v < 5 → gb_V1 K g0 n0 i v) s.2.1 s.2.2.1 s.2.2.2.1 s.2.2.2.2 ∧ s.1 ≤ s.2.2.1) (fun s => 40 - s.1) ?_ (0, 0, n0, g0, l0) ⟨⟨hok, Or.inl ⟨rfl, rfl, rfl, rfl, fun i hi => absurd hi (Nat.not_lt_zero i)⟩⟩, Nat.zero_le _⟩
  rintro m ⟨i, x1, n, a5, a6⟩ ⟨h, hi⟩ hw
  have hi : i ≤ n := hi
  have h : gb_R K f n0 g0 l0 (∀ j, j < i → ∀ v, v < 5 → gb_V1 K g0 n0 j v) x1 n a5 a6 := h
  have hn := gb_ok_n h.1
  refine pk_le n i (fun z => ?_) (fun z => gb_tv14 ht h z (fun x1' n' a5' a6' hR hin => hw (i + 1, x1', n', a5', a6') ⟨gb_R_imp hR (fun _ _ c j hj => ?_), hin⟩ ?_))
  · rcases h.2 with ⟨e1, e2, e3, e4, c⟩ | ⟨e1, e2⟩
    · subst e1 e2 e3 e4
      exact ⟨narrow_b0, H0 (fun j v hj hv hb => c j (by omega) v hv hb)⟩
    · subst e1
      exact ⟨narrow_b1, H1 n a5 a6 e2 h.1⟩
  · by_cases e : j = i
    · rw [e]
      exact c.2
    · exact c.1 j (by have hj : j < i + 1 := hj; omega)
  · show 40 - (i + 1) < 40 - i
    omega
theorem gb_tp14 (ht : gb_tab K a3 a4) {C : Prop} {i : Nat} {x1 : Int32} {n : Nat} {a5 a6 : Nat → Int32} (hR : gb_R K f n0 g0 l0 C x1 n a5 a6) (hi : i < n)
    (H : ∀ x1' n' a5' a6', gb_R K f n0 g0 l0 (C ∧ ∀ j, j < i → gb_S1 K g0 n0 i j) x1' n' a5' a6' → i < n' → J4 x1' (nI (i + 1)) fk (nI n') a1 a2 a3 a4 a5' a6' a7 a8 a9) :
    ∃ m, wX_tryPairs_14 post J4 (nI i) m x1 0 fk (nI n) a1 a2 a3 a4 a5 a6 a7 a8 a9 := by
  have hi32 : i < 32 := Nat.lt_of_lt_of_le hi (gb_ok_n hR.1)
  refine pk_loop (σ := Int32 × Nat × (Nat → Int32) × (Nat → Int32)) (fun m v s => wX_tryPairs_14 post J4 (nI i) m s.1 (nI v) fk (nI s.2.1) a1 a2 a3 a4 s.2.2.1 s.2.2.2 a7 a8 a9) (fun v s => gb_R K f n0 g0 l0 (C ∧ ∀ u, u < v → gb_S1 K g0 n0 i u) s.1 s.2.1 s.2.2.1 s.2.2.2 ∧ i < s.2.1) i 0 (x1, n, a5, a6) (by omega) ⟨gb_R_imp hR (fun _ _ c => ⟨c, fun u hu => absurd hu (by omega)⟩), hi⟩ ?_ ?_
  · intro m s h
    exact pk_le i i (fun _ => nm_r (nI_1 i) (H _ _ _ _ h.1 h.2)) (fun z => absurd z (by omega))
  · rintro m j ⟨y1, k, b5, b6⟩ hj ⟨h, hik⟩ hw
    have hik : i < k := hik
    have h : gb_R K f n0 g0 l0 (C ∧ ∀ u, u < j → gb_S1 K g0 n0 i u) y1 k b5 b6 := h
    have hk := gb_ok_n h.1
    have hw' : ∀ x1' n' a5' a6', gb_R K f n0 g0 l0 (C ∧ ∀ u, u < j + 1 → gb_S1 K g0 n0 i u) x1' n' a5' a6' → k ≤ n' → wX_tryPairs_14 post J4 (nI i) m x1' (nI (j + 1)) fk (nI n') a1 a2 a3 a4 a5' a6' a7 a8 a9 := fun x1' n' a5' a6' z hz => hw (x1', n', a5', a6') ⟨z, Nat.lt_of_lt_of_le hik hz⟩
    clear hw
    have add : k = n0 → b5 = g0 → gb_S1 K b5 k i j → (C ∧ ∀ u, u < j → gb_S1 K g0 n0 i u) → (C ∧ ∀ u, u < j + 1 → gb_S1 K g0 n0 i u) := by
      intro e1 e2 z c
      refine ⟨c.1, fun u hu => ?_⟩
      by_cases e : u = j
      · rw [e, ← e1, ← e2]
        exact z
      · exact c.2 u (by omega)
    have A : b6 (nI i).toNatClampNeg = nI (gb_L K (b5 i)) := by rw [nI_clamp (show i < 2 ^ 31 by omega)]; exact (h.1.1 i hik).2
    have B : b6 (nI j).toNatClampNeg = nI (gb_L K (b5 j)) := by rw [nI_clamp (show j < 2 ^ 31 by omega)]; exact (h.1.1 j (by omega)).2
    have hLi := gb_L_lt K (b5 i)
    have hLj := gb_L_lt K (b5 j)
    have ho := gb_or hLi hLj
    have E : b6 (nI i).toNatClampNeg ||| b6 (nI j).toNatClampNeg = nI (gb_L K (b5 i) ||| gb_L K (b5 j)) := by rw [A, B, gb_nor]
    refine pk_le i j (fun z => absurd z (by omega)) (fun _ => ⟨pk_in i 40 (by omega), pk_in j 40 (by omega), nm_r E ⟨pk_in i 40 (by omega), pk_in i 40 (by omega), ?_⟩⟩)
    show wpX_times _ (fk, nI k, a1, a2, a3, a4, b5, b6, a7, a8, a9) (b5 (nI i).toNatClampNeg) (nI (gb_L K (b5 i) ||| gb_L K (b5 j)) &&& (b6 (nI i).toNatClampNeg ^^^ (-1)))
    rw [A, gb_ndf ho hLi, nI_clamp (show i < 2 ^ 31 by omega)]
    refine gb_times ht (gb_dfl _ ho) ⟨pk_in j 40 (by omega), pk_in j 40 (by omega), ?_⟩
    show wpX_times _ (fk, nI k, a1, a2, a3, a4, b5, b6, a7, a8, a9) (b5 (nI j).toNatClampNeg) (nI (gb_L K (b5 i) ||| gb_L K (b5 j)) &&& (b6 (nI j).toNatClampNeg ^^^ (-1)))
    rw [B, gb_ndf ho hLj, nI_clamp (show j < 2 ^ 31 by omega)]
    refine gb_times ht (gb_dfl _ ho) (nm_r (e' := gb_pr K (b5 i) (b5 j)) rfl (gb_ent ht h.1 (gb_bd_S (h.1.1 i hik).1 (h.1.1 j (by omega)).1) ?_ (fun hsp => ?_) (fun r hok _ => ?_)))
    · have t1 := gb_w2 K ho
      omega
    · exact gb_R_after (W := fun x n' a5' a6' => ∀ x3_48 : Int32, x3_48 = nI j + 1 → wX_tryPairs_14 post J4 (nI i) m x x3_48 fk (nI n') a1 a2 a3 a4 a5' a6' a7 a8 a9) h rfl (fun e1 e2 c => add e1 e2 hsp c) (fun x1' n' a5' a6' z hz => nm_r (nI_1 j) (hw' x1' n' a5' a6' z hz))
    · exact gb_R_after1 (C' := C ∧ ∀ u, u < j + 1 → gb_S1 K g0 n0 i u) (W := fun x n' a5' a6' => ∀ x3_48 : Int32, x3_48 = nI j + 1 → wX_tryPairs_14 post J4 (nI i) m x x3_48 fk (nI n') a1 a2 a3 a4 a5' a6' a7 a8 a9) h rfl hok (fun x1' n' a5' a6' z hz => nm_r (nI_1 j) (hw' x1' n' a5' a6' z hz))
theorem gb_tp (ht : gb_tab K a3 a4) (hok : gb_ok K f n0 g0 l0)
    (H0 : gb_S K g0 n0 → post 0 (fk, nI n0, a1, a2, a3, a4, g0, l0, a7, a8, a9))
    (H1 : ∀ n' a5' a6', n0 < n' → gb_ok K f n' a5' a6' → post 1 (fk, nI n', a1, a2, a3, a4, a5', a6', a7, a8, a9)) :
    wpX_tryPairs post (fk, nI n0, a1, a2, a3, a4, g0, l0, a7, a8, a9) := by
  refine loop_m (σ := Nat × Int32 × Nat × (Nat → Int32) × (Nat → Int32)) (fun m s => wX_tryPairs_4 post m s.2.1 (nI s.1) fk (nI s.2.2.1) a1 a2 a3 a4 s.2.2.2.1 s.2.2.2.2 a7 a8 a9) (fun s => gb_R K f n0 g0 l0 (∀ i, i < s.1 → ∀ j, j < i → gb_S1 K g0 n0 i j) s.2.1 s.2.2.1 s.2.2.2.1 s.2.2.2.2 ∧ s.1 ≤ s.2.2.1) (fun s => 40 - s.1) ?_ (0, 0, n0, g0, l0) ⟨⟨hok, Or.inl ⟨rfl, rfl, rfl, rfl, fun i hi => absurd hi (Nat.not_lt_zero i)⟩⟩, Nat.zero_le _⟩
  rintro m ⟨i, x1, n, a5, a6⟩ ⟨h, hi⟩ hw
  have hi : i ≤ n := hi
  have h : gb_R K f n0 g0 l0 (∀ k, k < i → ∀ j, j < k → gb_S1 K g0 n0 k j) x1 n a5 a6 := h
  have hn := gb_ok_n h.1
  refine pk_le n i (fun z => ?_) (fun z => gb_tp14 ht h z (fun x1' n' a5' a6' hR hin => hw (i + 1, x1', n', a5', a6') ⟨gb_R_imp hR (fun _ _ c j hj => ?_), hin⟩ ?_))
  · rcases h.2 with ⟨e1, e2, e3, e4, c⟩ | ⟨e1, e2⟩
    · subst e1 e2 e3 e4
      exact ⟨narrow_b0, H0 (fun k j hk hj => c k (by omega) j hj)⟩
    · subst e1
      exact ⟨narrow_b1, H1 n a5 a6 e2 h.1⟩
  · by_cases e : j = i
    · rw [e]
      exact c.2
    · exact c.1 j (by have hj : j < i + 1 := hj; omega)
  · show 40 - (i + 1) < 40 - i
    omega
end
end
section
/-! ===== keepLeast ===== -/
theorem gb_ix (k m : Nat) : (32 : Int32) * nI k + nI m = nI (32 * k + m) := by
  rw [show (32 : Int32) = nI 32 from rfl, pk_mul, nI_add]
theorem gb_ix1 (k m : Nat) : (32 : Int32) * nI k + nI (m + 1) - 1 = nI (32 * k + m) := by
  rw [gb_ix, ← Nat.add_assoc, nI_pred]
theorem gb_minl {K : Bool} {f : Int32} {n : Nat} {a5 a6 : Nat → Int32} (h : gb_ok K f n a5 a6) : ∀ w i, i < n → gb_L K (a5 i) ≤ w → ∃ j, j < n ∧ gb_dv (gb_L K (a5 j)) (gb_L K (a5 i)) ∧ ∀ k, k < n → k ≠ j → ¬ gb_dv (gb_L K (a5 k)) (gb_L K (a5 j)) := by
  have hne : ∀ i j, i < n → j < n → i ≠ j → gb_L K (a5 i) ≠ gb_L K (a5 j) := by
    intro i j hi hj hij e
    rcases Nat.lt_or_ge i j with z | z
    · exact h.2.1 j i hj z (by rw [e]; exact gb_dvr _)
    · exact h.2.1 i j hi (by omega) (by rw [e]; exact gb_dvr _)
  intro w
  induction w with
  | zero =>
    intro i hi hw
    refine ⟨i, hi, gb_dvr _, fun k hk hki hd => ?_⟩
    have t := gb_dvle hd
    exact hne k i hk hi hki (by omega)
  | succ w ih =>
    intro i hi hw
    by_cases hm : ∃ k, k < n ∧ k ≠ i ∧ gb_dv (gb_L K (a5 k)) (gb_L K (a5 i))
    · obtain ⟨k, hk, hki, hd⟩ := hm
      have t := gb_dvle hd
      have t2 := hne k i hk hi hki
      obtain ⟨j, hj, hdj, hmj⟩ := ih k hk (by omega)
      exact ⟨j, hj, gb_dvt hdj hd, hmj⟩
    · exact ⟨i, hi, gb_dvr _, fun k hk hki hd => hm ⟨k, hk, hki, hd⟩⟩
/-- b with r put among its first c: at m, what stood there and behind moved up by one -/
def gb_hole (k c m : Nat) (b a : Nat → Int32) : Prop := (∀ t, t < m → a (32 * k + t) = b (32 * k + t)) ∧ (∀ t, m < t → t ≤ c → a (32 * k + t) = b (32 * k + (t - 1)))
def gb_put (k c : Nat) (r : Int32) (b a : Nat → Int32) : Prop := (∀ t, t < c + 1 → a (32 * k + t) = r ∨ ∃ u, u < c ∧ a (32 * k + t) = b (32 * k + u)) ∧ (∃ t, t < c + 1 ∧ a (32 * k + t) = r) ∧ (∀ u, u < c → ∃ t, t < c + 1 ∧ a (32 * k + t) = b (32 * k + u))
theorem gb_hole_put {k c m : Nat} {r : Int32} {b a : Nat → Int32} (h : gb_hole k c m b a) (hm : m ≤ c) : gb_put k c r b (upd a (32 * k + m) r) := by
  have e1 : ∀ t, t < m → upd a (32 * k + m) r (32 * k + t) = b (32 * k + t) := fun t ht => by rw [pk_un (by omega)]; exact h.1 t ht
  have e2 : ∀ t, m < t → t ≤ c → upd a (32 * k + m) r (32 * k + t) = b (32 * k + (t - 1)) := fun t ht hc => by rw [pk_un (by omega)]; exact h.2 t ht hc
  refine ⟨fun t ht => ?_, ⟨m, by omega, pk_us⟩, fun u hu => ?_⟩
  · rcases Nat.lt_trichotomy t m with z | z | z
    · exact Or.inr ⟨t, by omega, e1 t z⟩
    · rw [z]
      exact Or.inl pk_us
    · exact Or.inr ⟨t - 1, by omega, e2 t z (by omega)⟩
  · rcases Nat.lt_or_ge u m with z | z
    · exact ⟨u, by omega, e1 u z⟩
    · exact ⟨u + 1, by omega, e2 (u + 1) (by omega) (by omega)⟩
theorem gb_hole_step {k c m : Nat} {b a : Nat → Int32} (h : gb_hole k c (m + 1) b a) : gb_hole k c m b (upd a (32 * k + (m + 1)) (a (32 * k + m))) := by
  refine ⟨fun t ht => ?_, fun t ht hc => ?_⟩
  · rw [pk_un (by omega)]
    exact h.1 t (by omega)
  · by_cases e : t = m + 1
    · rw [e, pk_us]
      exact h.1 m (by omega)
    · rw [pk_un (by omega)]
      exact h.2 t (by omega) hc
section
variable {post : St2 → Prop} {J4 : Int32 → Int32 → (Nat → Int32) → (Nat → Int32) → (Nat → Int32) → (Nat → Int32) → (Nat → Int32) → (Nat → Int32) → (Nat → Int32) → (Nat → Int32) → (Nat → Int32) → Prop} {fk : Int32} {a1 a2 a3 a4 a5 a6 a7 a8 a9 : Nat → Int32} {K : Bool} {f : Int32} {n k : Nat}
theorem gb_k159 {fw r : Int32} {c i m : Nat} {b : Nat → Int32} (hk : k < 2) (hc : c < 32) (hm : m ≤ c) (h : gb_hole k c m b a7)
    (H : ∀ a7', gb_put k c r b a7' → J4 (nI (c + 1)) (nI (i + 1)) a1 a2 a3 a4 a5 a6 a7' a8 a9) :
    wX_keepLeast_159 post J4 (nI k) (nI c) (nI i) r (nI m) fk fw a1 a2 a3 a4 a5 a6 a7 a8 a9 := by
  unfold wX_keepLeast_159
  rw [gb_ix, nI_clamp (show 32 * k + m < 2 ^ 31 by omega)]
  exact ⟨pk_in (32 * k + m) 64 (by omega), nm_e (nm_r (nI_1 c) (nm_r (nI_1 i) (H _ (gb_hole_put h hm))))⟩
theorem gb_k97 {fw r : Int32} {c i : Nat} (hk : k < 2) (hc : c < 32)
    (H : ∀ a7', gb_put k c r a7 a7' → J4 (nI (c + 1)) (nI (i + 1)) a1 a2 a3 a4 a5 a6 a7' a8 a9) :
    ∃ m, wX_keepLeast_97 post J4 (nI k) (nI c) (nI i) r fk fw m (nI c) a1 a2 a3 a4 a5 a6 a7 a8 a9 := by
  refine ⟨c + 1, pk_loopD (fun m e s => wX_keepLeast_97 post J4 (nI k) (nI c) (nI i) r fk fw m (nI e) a1 a2 a3 a4 a5 a6 s a8 a9) (fun e s => e ≤ c ∧ gb_hole k c e a7 s) ?_ ?_ c a7 ⟨Nat.le_refl _, fun t _ => rfl, fun t h1 h2 => absurd h1 (by omega)⟩⟩
  · intro m s h
    exact pk_le 0 0 (fun _ => gb_k159 hk hc h.1 h.2 H) (fun z => absurd z (by omega))
  · intro m e s h hw
    have he : e + 1 ≤ c := h.1
    refine pk_le (e + 1) 0 (fun z => absurd z (by omega)) (fun _ => ⟨pk_in (32 * k + e) 64 (by omega) (gb_ix1 k e), gb_high (gb_high (pk_le (gb_hi _) (gb_hi r) (fun _ => gb_k159 hk hc h.1 h.2 H) (fun _ => ⟨pk_in (32 * k + e) 64 (by omega) (gb_ix1 k e), pk_in (32 * k + (e + 1)) 64 (by omega) (gb_ix k (e + 1)), ?_⟩) rfl rfl (Nat.lt_of_lt_of_le (gb_hi_lt _) (by decide)) (Nat.lt_of_lt_of_le (gb_hi_lt _) (by decide))))⟩)
    rw [gb_ix1, gb_ix, nI_clamp (show 32 * k + e < 2 ^ 31 by omega), nI_clamp (show 32 * k + (e + 1) < 2 ^ 31 by omega)]
    exact nm_e (nm_r (pk_m1 e) (hw _ ⟨by omega, gb_hole_step h.2⟩))
theorem gb_k18 (ht : gb_tab K a3 a4) (hok : gb_ok K f n a5 a6) {c i : Nat} (hk : k < 2) (hc : c ≤ i) (hi : i < n)
    (H0 : (∃ j, j < n ∧ j ≠ i ∧ gb_dv (gb_L K (a5 j)) (gb_L K (a5 i))) → J4 (nI c) (nI (i + 1)) a1 a2 a3 a4 a5 a6 a7 a8 a9)
    (H1 : ∀ r a7', r ≠ 0 → gb_L K r = gb_L K (a5 i) → gb_sp K a5 n 400 r → gb_put k c r a7 a7' → J4 (nI (c + 1)) (nI (i + 1)) a1 a2 a3 a4 a5 a6 a7' a8 a9) :
    ∃ m, wX_keepLeast_18 post J4 (nI k) (nI c) (nI i) fk (nI n) a1 a2 a3 a4 a5 a6 a7 a8 a9 m 1 0 := by
  have hn := gb_ok_n hok
  refine pk_loop (fun m j s => wX_keepLeast_18 post J4 (nI k) (nI c) (nI i) fk (nI n) a1 a2 a3 a4 a5 a6 a7 a8 a9 m s (nI j)) (fun j s => s = 1 ∨ (s = 0 ∧ ∃ j, j < n ∧ j ≠ i ∧ gb_dv (gb_L K (a5 j)) (gb_L K (a5 i)))) n 0 1 (by omega) (Or.inl rfl) ?_ ?_
  · intro m s h
    refine pk_le n n (fun _ => ?_) (fun z => absurd z (by omega))
    rcases h with h | ⟨h, hj⟩
    · exact br_f (by rw [h]; decide) (gb_rt ht hok hi (fun r h1 h2 h3 => gb_k97 hk (by omega) (fun a7' hp => H1 r a7' h1 h2 h3 hp)))
    · exact br_t h (nm_r (nI_1 i) (H0 hj))
  · intro m j s hj h hw
    have A : a6 (nI j).toNatClampNeg = nI (gb_L K (a5 j)) := by rw [nI_clamp (show j < 2 ^ 31 by omega)]; exact (hok.1 j hj).2
    have B : a6 (nI i).toNatClampNeg = nI (gb_L K (a5 i)) := by rw [nI_clamp (show i < 2 ^ 31 by omega)]; exact (hok.1 i hi).2
    have st : ∀ z0 : Int32, ((z0 = 1 ∧ gb_dv (gb_L K (a5 j)) (gb_L K (a5 i))) ∨ z0 = 0) → wX_keepLeast_51 post J4 (wX_keepLeast_18 post J4 (nI k) (nI c) (nI i) fk (nI n) a1 a2 a3 a4 a5 a6 a7 a8 a9 m) (nI k) (nI c) (nI i) s (nI j) z0 fk (nI n) a1 a2 a3 a4 a5 a6 a7 a8 a9 := by
      intro z0 hz
      unfold wX_keepLeast_51
      rcases h with h | ⟨h, hj⟩
      · refine br_f (by rw [h]; decide) (pk_eq j i (fun _ => nm_r (nI_1 j) (hw _ (Or.inl rfl))) (fun e => ?_))
        rcases hz with ⟨hz, hd⟩ | hz
        · exact br_f (by rw [hz]; decide) (nm_r (nI_1 j) (hw _ (Or.inr ⟨rfl, j, hj, e, hd⟩)))
        · exact br_t hz (nm_r (nI_1 j) (hw _ (Or.inl rfl)))
      · exact br_t h (nm_r (nI_1 j) (hw _ (Or.inr ⟨rfl, hj⟩)))
    have E : (a6 (nI j).toNatClampNeg &&& (a6 (nI i).toNatClampNeg ^^^ (-1))) = 0 ↔ gb_dv (gb_L K (a5 j)) (gb_L K (a5 i)) := by rw [A, B]; exact gb_ndv (gb_L_lt K _) (gb_L_lt K _)
    refine pk_le n j (fun z => absurd z (by omega)) (fun _ => ⟨pk_in j 40 (by omega), pk_in i 40 (by omega), ek_if E (fun hd => st 1 (Or.inl ⟨rfl, hd⟩)) (fun hd => st 0 (Or.inr rfl))⟩)
theorem gb_keep (ht : gb_tab K a3 a4) (hok : gb_ok K f n a5 a6) (hV : gb_V K a5 n) (hS : gb_S K a5 n) (hk : k < 2)
    (H : ∀ c a7', c ≤ 32 → gb_Z K (fun t => a7' (32 * k + t)) c f → post (fk, nI n, a1, a2, a3, a4, a5, a6, a7', upd a8 k (nI c), a9)) :
    wpX_keepLeast post (fk, nI n, a1, a2, a3, a4, a5, a6, a7, a8, a9) (nI k) := by
  have hn := gb_ok_n hok
  refine loop_m (σ := Nat × Nat × (Nat → Int32)) (fun m s => wX_keepLeast_4 post (nI k) fk (nI n) m (nI s.1) (nI s.2.1) a1 a2 a3 a4 a5 a6 s.2.2 a8 a9) (fun s => s.1 ≤ s.2.1 ∧ s.2.1 ≤ n ∧ (∀ t, t < s.1 → gb_sp K a5 n 400 (s.2.2 (32 * k + t)) ∧ s.2.2 (32 * k + t) ≠ 0) ∧ (∀ j, j < s.2.1 → (∀ l, l < n → l ≠ j → ¬ gb_dv (gb_L K (a5 l)) (gb_L K (a5 j))) → ∃ t, t < s.1 ∧ gb_L K (s.2.2 (32 * k + t)) = gb_L K (a5 j))) (fun s => 40 - s.2.1) ?_ (0, 0, a7) ⟨Nat.le_refl _, Nat.zero_le _, fun t h => absurd h (Nat.not_lt_zero t), fun t h => absurd h (Nat.not_lt_zero t)⟩
  rintro m ⟨c, i, b⟩ ⟨h1, h2, h3, h4⟩ hw
  have h1 : c ≤ i := h1
  have h2 : i ≤ n := h2
  have h3 : ∀ t, t < c → gb_sp K a5 n 400 (b (32 * k + t)) ∧ b (32 * k + t) ≠ 0 := h3
  have h4 : ∀ j, j < i → (∀ l, l < n → l ≠ j → ¬ gb_dv (gb_L K (a5 l)) (gb_L K (a5 j))) → ∃ t, t < c ∧ gb_L K (b (32 * k + t)) = gb_L K (a5 j) := h4
  have hw' : ∀ c' b', c' ≤ i + 1 → i + 1 ≤ n → (∀ t, t < c' → gb_sp K a5 n 400 (b' (32 * k + t)) ∧ b' (32 * k + t) ≠ 0) → (∀ j, j < i + 1 → (∀ l, l < n → l ≠ j → ¬ gb_dv (gb_L K (a5 l)) (gb_L K (a5 j))) → ∃ t, t < c' ∧ gb_L K (b' (32 * k + t)) = gb_L K (a5 j)) → wX_keepLeast_4 post (nI k) fk (nI n) m (nI c') (nI (i + 1)) a1 a2 a3 a4 a5 a6 b' a8 a9 := fun c' b' z1 z2 z3 z4 => hw (c', i + 1, b') ⟨z1, z2, z3, z4⟩ (by show 40 - (i + 1) < 40 - i; omega)
  clear hw
  refine pk_le n i (fun z => ⟨pk_in k 2 hk, ?_⟩) (fun z => gb_k18 ht hok hk h1 z (fun hj => hw' c b (by omega) z h3 (fun j hj2 hl => ?_)) (fun r a7' hr hL hsp hp => hw' (c + 1) a7' (by omega) z (fun t ht2 => ?_) (fun j hj hl => ?_)))
  · show ∀ a8_3 : Nat → Int32, a8_3 = upd a8 (nI k).toNatClampNeg (nI c) → post (fk, nI n, a1, a2, a3, a4, a5, a6, b, a8_3, a9)
    rw [nI_clamp (show k < 2 ^ 31 by omega)]
    refine nm_e (H c b (by omega) (gb_Z_of hV hS (fun j hj => (hok.1 j hj).1) hok.2.2 h3 (fun j hj => ?_)))
    obtain ⟨l, hl, hd, hm⟩ := gb_minl hok (gb_L K (a5 j)) j hj (Nat.le_refl _)
    obtain ⟨t, htc, e⟩ := h4 l (by omega) hm
    exact ⟨t, htc, by show gb_dv (gb_L K (b (32 * k + t))) (gb_L K (a5 j)); rw [e]; exact hd⟩
  · by_cases e : j = i
    · obtain ⟨l, hl1, hl2, hl3⟩ := hj
      rw [e] at hl
      exact absurd hl3 (hl l hl1 hl2)
    · exact h4 j (by omega) hl
  · rcases hp.1 t ht2 with e | ⟨u, hu, e⟩
    · rw [e]
      exact ⟨hsp, hr⟩
    · rw [e]
      exact h3 u hu
  · by_cases e : j = i
    · obtain ⟨t, ht2, et⟩ := hp.2.1
      exact ⟨t, ht2, by rw [et, hL, e]⟩
    · obtain ⟨u, hu, eu⟩ := h4 j (by omega) hl
      obtain ⟨t, ht2, et⟩ := hp.2.2 u hu
      exact ⟨t, ht2, by rw [et, eu]⟩
end
end
section
/-! ===== complete, normalOf ===== -/
/-- the basis of ideal k brings x to 0 -/
def gb_zs (K : Bool) (k : Nat) (x : Int32) (a7 a8 : Nat → Int32) : Prop := ∃ c, c ≤ 32 ∧ a8 k = nI c ∧ gb_Z K (fun t => a7 (32 * k + t)) c x
theorem gb_i8 (k : Nat) : (8 : Int32) * nI k + 0 = nI (8 * k) := by
  rw [show (8 : Int32) = nI 8 from rfl, show (0 : Int32) = nI 0 from rfl, pk_mul, nI_add]
  rfl
section
variable {fk fw : Int32} {a1 a2 a3 a4 a5 a6 a7 a8 a9 : Nat → Int32} {K : Bool} {f : Int32} {n k : Nat}
theorem gb_c110 {post : St2 → Prop} (ht : gb_tab K a3 a4) (hok : gb_ok K f n a5 a6) (hV : gb_V K a5 n) (hS : gb_S K a5 n) (hk : k < 2)
    (H : ∀ n' a5' a6' a7' a8', gb_zs K k f a7' a8' → post (fk, nI n', a1, a2, a3, a4, a5', a6', a7', a8', a9)) :
    wX_complete_110 post (nI k) fk (nI n) a1 a2 a3 a4 a5 a6 a7 a8 a9 :=
  gb_keep ht hok hV hS hk (fun c a7' hc hz => H n a5 a6 a7' (upd a8 k (nI c)) ⟨c, hc, pk_us, hz⟩)
theorem gb_c66 {post : St2 → Prop} (ht : gb_tab K a3 a4) (hok : gb_ok K f n a5 a6) (hk : k < 2)
    (H : ∀ n' a5' a6' a7' a8', gb_zs K k f a7' a8' → post (fk, nI n', a1, a2, a3, a4, a5', a6', a7', a8', a9)) :
    ∃ m, wX_complete_66 post (nI k) m 1 0 fk (nI n) a1 a2 a3 a4 a5 a6 a7 a8 a9 := by
  refine pk_loop (σ := Int32 × Nat × (Nat → Int32) × (Nat → Int32)) (fun m c s => wX_complete_66 post (nI k) m s.1 (nI c) fk (nI s.2.1) a1 a2 a3 a4 s.2.2.1 s.2.2.2 a7 a8 a9) (fun c s => gb_ok K f s.2.1 s.2.2.1 s.2.2.2 ∧ ((s.1 = 1 ∧ c ≤ s.2.1) ∨ (s.1 = 0 ∧ gb_V K s.2.2.1 s.2.1 ∧ gb_S K s.2.2.1 s.2.1))) 40 0 (1, n, a5, a6) (by omega) ⟨hok, Or.inl ⟨rfl, Nat.zero_le _⟩⟩ ?_ ?_
  · rintro m ⟨x2, n', b5, b6⟩ ⟨h1, h2⟩
    have h1 : gb_ok K f n' b5 b6 := h1
    have hn := gb_ok_n h1
    refine pk_le 40 40 (fun _ => ?_) (fun z => absurd z (by omega))
    rcases h2 with ⟨_, z⟩ | ⟨_, hV, hS⟩
    · have z : 40 ≤ n' := z
      omega
    · exact gb_c110 ht h1 hV hS hk H
  · rintro m c ⟨x2, n', b5, b6⟩ hc ⟨h1, h2⟩ hw
    have h1 : gb_ok K f n' b5 b6 := h1
    have hw' : ∀ x n'' c5 c6, gb_ok K f n'' c5 c6 → ((x = 1 ∧ c + 1 ≤ n'') ∨ (x = 0 ∧ gb_V K c5 n'' ∧ gb_S K c5 n'')) → wX_complete_66 post (nI k) m x (nI (c + 1)) fk (nI n'') a1 a2 a3 a4 c5 c6 a7 a8 a9 := fun x n'' c5 c6 z1 z2 => hw (x, n'', c5, c6) ⟨z1, z2⟩
    clear hw
    refine pk_le 40 c (fun z => absurd z (by omega)) (fun _ => ?_)
    rcases h2 with ⟨e, z⟩ | ⟨e, hV, hS⟩
    · have e : x2 = 1 := e
      have z : c ≤ n' := z
      refine br_f (show ¬ x2 = 0 by rw [e]; decide) (gb_tv ht h1 (fun hV => gb_tp ht h1 (fun hS => ?_) (fun n2 c5 c6 hn2 hok2 => ?_)) (fun n1 b5' b6' hn1 hok1 => gb_tp ht hok1 (fun hS => ?_) (fun n2 c5 c6 hn2 hok2 => ?_)))
      · exact br_t rfl (br_t rfl (nm_r (nI_1 c) (hw' 0 n' b5 b6 h1 (Or.inr ⟨rfl, hV, hS⟩))))
      · exact br_t rfl (br_f (by decide) (nm_r (nI_1 c) (hw' 1 n2 c5 c6 hok2 (Or.inl ⟨rfl, by omega⟩))))
      · exact br_f (by decide) (nm_r (nI_1 c) (hw' 1 n1 b5' b6' hok1 (Or.inl ⟨rfl, by omega⟩)))
      · exact br_f (by decide) (nm_r (nI_1 c) (hw' 1 n2 c5 c6 hok2 (Or.inl ⟨rfl, by omega⟩)))
    · exact br_t e (gb_c110 ht h1 hV hS hk H)
theorem gb_comp {post : St2 → Prop} (ht : gb_tab K a3 a4) (hk : k < 2) {x : Int32} (h2 : a2 k = 1) (h1 : a1 (8 * k) = x) (h9 : a9 k = 0 ∨ gb_zs K k (gb_io K x) a7 a8)
    (H : ∀ fw' a5' a6' a7' a8' a9', gb_zs K k (gb_io K x) a7' a8' → post (fk, fw', a1, a2, a3, a4, a5', a6', a7', a8', a9')) :
    wpX_complete post (fk, fw, a1, a2, a3, a4, a5, a6, a7, a8, a9) (nI k) := by
  have hkc : (nI k).toNatClampNeg = k := nI_clamp (show k < 2 ^ 31 by omega)
  by_cases e : a9 k = 0
  · refine ⟨pk_in k 2 hk, br_t (by rw [hkc]; exact e) ⟨pk_in k 2 hk, nm_e ⟨2, pk_in k 2 hk, br_f (by rw [hkc, h2]; decide) ⟨pk_in (8 * k) 16 (by omega) (gb_i8 k), ?_⟩⟩⟩⟩
    rw [gb_i8, nI_clamp (show 8 * k < 2 ^ 31 by omega), h1]
    refine gb_inO ht (gb_ent (n := 0) ht (gb_ok_0 K a5 a6) (gb_bd_big K _) (Nat.le_refl _) (fun hsp => ?_) (fun r hok hsp => ?_))
    · exact nm_e ⟨pk_in k 2 hk, br_t (by rw [hkc, h2]; decide) (gb_c66 (n := 0) ht ⟨fun _ h => absurd h (Nat.not_lt_zero _), fun _ _ h => absurd h (Nat.not_lt_zero _), hsp⟩ hk (fun n' a5' a6' a7' a8' hz => H _ a5' a6' a7' a8' _ hz))⟩
    · exact nm_e ⟨pk_in k 2 hk, br_t (by rw [hkc, h2]; decide) (gb_c66 (n := 1) ht ⟨hok.1, hok.2.1, hsp⟩ hk (fun n' a5' a6' a7' a8' hz => H _ a5' a6' a7' a8' _ hz))⟩
  · refine ⟨pk_in k 2 hk, br_f (by rw [hkc]; exact e) (H fw a5 a6 a7 a8 a9 ?_)⟩
    rcases h9 with z | z
    · exact absurd z e
    · exact z
theorem gb_nrm {post : Int32 → St2 → Prop} (ht : gb_tab K a3 a4) (hk : k < 2) {x : Int32} (h2 : a2 k = 1) (h1 : a1 (8 * k) = x) (h9 : a9 k = 0 ∨ gb_zs K k (gb_io K x) a7 a8)
    (H : ∀ fw' a5' a6' a7' a8' a9', gb_zs K k (gb_io K x) a7' a8' → post 0 (fk, fw', a1, a2, a3, a4, a5', a6', a7', a8', a9')) :
    wpX_normalOf post (fk, fw, a1, a2, a3, a4, a5, a6, a7, a8, a9) (nI k) x := by
  refine gb_comp (fw := fw) ht hk h2 h1 h9 (fun fw' b5 b6 b7 b8 b9 hz => ?_)
  have hkc : (nI k).toNatClampNeg = k := nI_clamp (show k < 2 ^ 31 by omega)
  obtain ⟨c, hc, e8, D, d1, d2, d3, d4, d5⟩ := id hz
  refine ⟨pk_in k 2 hk, nm_r (e' := nI c) (by rw [hkc]; exact e8) ?_⟩
  refine pk_loop (σ := (Nat → Int32) × (Nat → Int32)) (fun m i s => wX_normalOf_17 post (nI k) x fk (nI c) m (nI i) a1 a2 a3 a4 s.1 s.2 b7 b8 b9) (fun i s => ∀ j, j < i → s.1 j = b7 (32 * k + j) ∧ s.2 j = nI (gb_L K (s.1 j))) c 0 (b5, b6) (by omega) (fun j hj => absurd hj (Nat.not_lt_zero j)) ?_ ?_
  · rintro m ⟨s5, s6⟩ h
    have h : ∀ j, j < c → s5 j = b7 (32 * k + j) ∧ s6 j = nI (gb_L K (s5 j)) := h
    refine pk_le c c (fun _ => gb_inO ht (gb_red ht (by omega) (fun i hi => ⟨by rw [(h i hi).1]; exact (d4 i hi).2, (h i hi).2⟩) D (fun y p i hp hi hb hd hy => d2 _ _ hy (d3 _ _ (gb_dfl _ (gb_Mlt K hp)) (by rw [(h i hi).1]; exact (d4 i hi).1))) d1 (fun r hr hnd => ?_))) (fun z => absurd z (by omega))
    have e : r = 0 := by
      apply Classical.byContradiction
      intro z
      obtain ⟨t, htc, p, hp, hb, hdv⟩ := d5 r hr z
      have q := hnd p hp hb t htc
      rw [(h t htc).1] at q
      exact q hdv
    rw [e]
    exact gb_outO ht (H (nI c) s5 s6 b7 b8 b9 hz)
  · rintro m i ⟨s5, s6⟩ hi h hw
    have h : ∀ j, j < i → s5 j = b7 (32 * k + j) ∧ s6 j = nI (gb_L K (s5 j)) := h
    have hic : (nI i).toNatClampNeg = i := nI_clamp (show i < 2 ^ 31 by omega)
    have e5 : upd s5 (nI i).toNatClampNeg (b7 ((32 : Int32) * nI k + nI i).toNatClampNeg) = upd s5 i (b7 (32 * k + i)) := by
      rw [gb_ix, hic, nI_clamp (show 32 * k + i < 2 ^ 31 by omega)]
    refine pk_le c i (fun z => absurd z (by omega)) (fun _ => ⟨pk_in (32 * k + i) 64 (by omega) (gb_ix k i), pk_in i 40 (by omega), nm_r e5 ⟨pk_in i 40 (by omega), ?_⟩⟩)
    rw [hic, pk_us]
    have hh := gb_hi_lt (b7 (32 * k + i))
    refine gb_high ⟨pk_in (gb_hi (b7 (32 * k + i))) 32 hh, pk_in i 40 (by omega), nm_r (e' := upd s6 i (nI (gb_L K (b7 (32 * k + i))))) ?_ (nm_r (nI_1 i) (hw (upd s5 i (b7 (32 * k + i)), upd s6 i (nI (gb_L K (b7 (32 * k + i))))) (fun j hj => ?_)))⟩
    · rw [nI_clamp (show gb_hi (b7 (32 * k + i)) < 2 ^ 31 by omega), ht.2 _ hh]
      rfl
    · show upd s5 i (b7 (32 * k + i)) j = b7 (32 * k + j) ∧ upd s6 i (nI (gb_L K (b7 (32 * k + i)))) j = nI (gb_L K (upd s5 i (b7 (32 * k + i)) j))
      by_cases e : j = i
      · rw [e, pk_us, pk_us]
        exact ⟨rfl, rfl⟩
      · rw [pk_un e, pk_un e]
        exact h j (by omega)
end
end
section
/-! ===== the calls of the law ===== -/
theorem gb_isT {post : Int32 → Prop} {k : Nat} (hk : k < 2) (H : post 1) : wpX_isIdeal post () (nI k) :=
  pk_eq k 0 (fun _ => H) (fun z => pk_eq k 1 (fun _ => H) (fun z2 => absurd hk (by omega)))
theorem gb_isF {post : Int32 → Prop} {p : Int32} (h0 : p ≠ 0) (h1 : p ≠ 1) (H : post 0) : wpX_isIdeal post () p := br_f h0 (br_f h1 H)
/-- the object: g says whether p0 is an ideal's number; then it has the one generator x -/
def gb_G (g : Bool) (p0 x : Int32) (K : Bool) (a1 a2 a3 a4 a7 a8 a9 : Nat → Int32) : Prop := gb_tab K a3 a4 ∧ ((g = false ∧ p0 ≠ 0 ∧ p0 ≠ 1) ∨ (g = true ∧ ∃ k, k < 2 ∧ p0 = nI k ∧ a2 k = 1 ∧ a1 (8 * k) = x ∧ (a9 k = 0 ∨ gb_zs K k (gb_io K x) a7 a8)))
section
variable {fk fw : Int32} {a1 a2 a3 a4 a5 a6 a7 a8 a9 : Nat → Int32} {K g : Bool} {p0 x : Int32} {k : Nat}
theorem gb_contains {post : Int32 → St2 → Prop} (hG : gb_G g p0 x K a1 a2 a3 a4 a7 a8 a9)
    (H : ∀ fw' a5' a6' a7' a8' a9', gb_G g p0 x K a1 a2 a3 a4 a7' a8' a9' → post (if g then 1 else -1) (fk, fw', a1, a2, a3, a4, a5', a6', a7', a8', a9')) :
    wpX_contains post (fk, fw, a1, a2, a3, a4, a5, a6, a7, a8, a9) p0 x := by
  unfold wpX_contains
  obtain ⟨ht, ⟨e, h0, h1⟩ | ⟨e, k, hk, ep, h2, h1, h9⟩⟩ := hG
  · subst e
    exact gb_isF h0 h1 (br_t rfl (H fw a5 a6 a7 a8 a9 ⟨ht, Or.inl ⟨rfl, h0, h1⟩⟩))
  · subst e ep
    exact gb_isT hk (br_f (by decide) (gb_nrm ht hk h2 h1 h9 (fun fw' a5' a6' a7' a8' a9' hz => br_t rfl (H fw' a5' a6' a7' a8' a9' ⟨ht, Or.inr ⟨rfl, k, hk, rfl, h2, h1, Or.inr hz⟩⟩))))
theorem gb_normal {post : Int32 → St2 → Prop} (hG : gb_G g p0 x K a1 a2 a3 a4 a7 a8 a9)
    (H : ∀ fw' a5' a6' a7' a8' a9', post 0 (fk, fw', a1, a2, a3, a4, a5', a6', a7', a8', a9')) :
    wpX_normal post (fk, fw, a1, a2, a3, a4, a5, a6, a7, a8, a9) p0 x := by
  unfold wpX_normal
  obtain ⟨ht, ⟨e, h0, h1⟩ | ⟨e, k, hk, ep, h2, h1, h9⟩⟩ := hG
  · exact gb_isF h0 h1 (br_t rfl (H fw a5 a6 a7 a8 a9))
  · subst ep
    exact gb_isT hk (br_f (by decide) (gb_nrm ht hk h2 h1 h9 (fun fw' a5' a6' a7' a8' a9' hz => H fw' a5' a6' a7' a8' a9')))
theorem gb_gen {post : Int32 → St2 → Prop} (hk : k < 2) (h2 : a2 k = 0) (H : ∀ a1' a2' a9', a1' (8 * k) = x → a2' k = 1 → a9' k = 0 → post 1 (fk, fw, a1', a2', a3, a4, a5, a6, a7, a8, a9')) :
    wpX_generate post (fk, fw, a1, a2, a3, a4, a5, a6, a7, a8, a9) (nI k) x := by
  unfold wpX_generate
  have hkc : (nI k).toNatClampNeg = k := nI_clamp (show k < 2 ^ 31 by omega)
  refine gb_isT hk (br_f (by decide) ⟨pk_in k 2 hk, br_f (by rw [hkc, h2]; decide) ⟨pk_in k 2 hk, pk_in (8 * k) 16 (by omega) (by rw [hkc, h2]; exact gb_i8 k), ?_⟩⟩)
  rw [hkc, h2, gb_i8, nI_clamp (show 8 * k < 2 ^ 31 by omega)]
  refine nm_e ⟨pk_in k 2 hk, pk_in k 2 hk, nm_e ⟨pk_in k 2 hk, nm_e ⟨pk_in k 2 hk, ?_⟩⟩⟩
  rw [pk_us]
  exact H _ _ _ pk_us pk_us pk_us
theorem gb_isz {post : Int32 → Prop} (hk : k < 2) (h2 : a2 k = 1) (h1 : a1 (8 * k) = x) {p : Nat} (hp : p < 32) (H : post (gb_i (!gb_vl x p))) :
    wpX_isZero post (fk, fw, a1, a2, a3, a4, a5, a6, a7, a8, a9) (nI k) (nI p) := by
  have hkc : (nI k).toNatClampNeg = k := nI_clamp (show k < 2 ^ 31 by omega)
  refine ⟨2, pk_in k 2 hk, br_f (by rw [hkc, h2]; decide) ⟨pk_in (8 * k) 16 (by omega) (gb_i8 k), ?_⟩⟩
  rw [gb_i8, nI_clamp (show 8 * k < 2 ^ 31 by omega), h1]
  refine gb_val hp ?_
  cases e : gb_vl x p with
  | true =>
    rw [e] at H
    exact br_t rfl H
  | false =>
    rw [e] at H
    exact br_f (by decide) (nm_e ⟨pk_in k 2 hk, br_t (by rw [hkc, h2]; decide) H⟩)
theorem gb_ne2 {q : Nat} (hq : q < 32) : ¬ (-2 : Int32) = nI q := (by decide +kernel : ∀ q, q < 32 → ¬ (-2 : Int32) = nI q) q hq
theorem gb_next {post : Int32 → Prop} (hk : k < 2) (h2 : a2 k = 1) (h1 : a1 (8 * k) = x) {q : Nat} (hq : q < 32) (H : ∀ r, (r = nI q ↔ gb_vl x q = false) → post r) :
    wpX_nextZero post (fk, fw, a1, a2, a3, a4, a5, a6, a7, a8, a9) (nI k) (nI q - 1) := by
  have lp : ∃ m, wX_nextZero_30 post (nI k) fk fw a1 a2 a3 a4 a5 a6 a7 a8 a9 m (nI q) := by
    refine pk_loop (σ := Unit) (fun m i _ => wX_nextZero_30 post (nI k) fk fw a1 a2 a3 a4 a5 a6 a7 a8 a9 m (nI i)) (fun i _ => i = q ∨ (q < i ∧ gb_vl x q = true)) 32 q () (by omega) (Or.inl rfl) ?_ ?_
    · intro m _ h
      refine pk_le 32 32 (fun _ => H _ ⟨fun z => absurd z (gb_ne2 hq), fun z => ?_⟩) (fun z => absurd z (by omega))
      rcases h with h | h
      · omega
      · rw [h.2] at z
        exact absurd z (by decide)
    · intro m i _ hi h hw
      refine pk_le 32 i (fun z => absurd z (by omega)) (fun _ => gb_isz hk h2 h1 hi ?_)
      cases e : gb_vl x i with
      | true =>
        refine br_t rfl (nm_r (nI_1 i) (hw () (Or.inr ?_)))
        rcases h with h | h
        · rw [h] at e
          exact ⟨by omega, e⟩
        · exact ⟨by omega, h.2⟩
      | false =>
        refine br_f (by decide) (H _ ?_)
        rw [nI_eq (by omega) (by omega)]
        rcases h with h | h
        · rw [h] at e
          exact ⟨fun _ => e, fun _ => h⟩
        · refine ⟨fun z => absurd z (by omega), fun z => ?_⟩
          rw [h.2] at z
          exact absurd z (by decide)
  unfold wpX_nextZero
  refine gb_isT hk (br_f (by decide) (br_t ?_ ?_))
  · exact (by decide +kernel : ∀ q, q < 32 → nI q - 1 < 31) q hq
  · by_cases e : q = 0
    · subst e
      exact br_f (by decide) lp
    · obtain ⟨r, rfl⟩ : ∃ r, q = r + 1 := ⟨q - 1, by omega⟩
      rw [nI_pred]
      exact br_t (nI_pos' (by omega)) (nm_r (nI_1 r) lp)
end
/-! ===== the parity that the law computes ===== -/
def gb_fs (c : Nat) (y : Int32) : Int32 := y ^^^ ((y.toUInt32 >>> ((nI c).toUInt32 &&& Int32.toUInt32 31)).toInt32)
theorem gb_fsx {c : Nat} (hc : c < 32) (y z : Int32) : gb_fs c (y ^^^ z) = gb_fs c y ^^^ gb_fs c z := by
  unfold gb_fs
  apply b_ext
  intro i hi
  simp only [b_xor, b_ushr c hc]
  cases bt y i <;> cases bt z i <;> cases bt y (c + i) <;> cases bt z (c + i) <;> rfl
def gb_pf (y : Int32) : Int32 := gb_fs 1 (gb_fs 2 (gb_fs 4 (gb_fs 8 (gb_fs 16 y)))) &&& 1
theorem gb_pfx (y z : Int32) : gb_pf (y ^^^ z) = gb_pf y ^^^ gb_pf z := by
  unfold gb_pf
  rw [gb_fsx (by omega), gb_fsx (by omega), gb_fsx (by omega), gb_fsx (by omega), gb_fsx (by omega)]
  apply b_ext
  intro i hi
  simp only [b_xor, b_and]
  cases bt (gb_fs 1 (gb_fs 2 (gb_fs 4 (gb_fs 8 (gb_fs 16 y))))) i <;> cases bt (gb_fs 1 (gb_fs 2 (gb_fs 4 (gb_fs 8 (gb_fs 16 z))))) i <;> cases bt 1 i <;> rfl
theorem gb_vlNx (y z : Int32) (q : Nat) : ∀ n, gb_vlN (y ^^^ z) q n = (gb_vlN y q n ^^ gb_vlN z q n)
  | 0 => rfl
  | n + 1 => by
    have ih := gb_vlNx y z q n
    unfold gb_vlN
    rw [ih, b_xor]
    cases gb_vlN y q n <;> cases gb_vlN z q n <;> cases bt y n <;> cases bt z n <;> cases decide (n ||| q = q) <;> rfl
theorem gb_ix2 (a b : Bool) : gb_i (a ^^ b) = gb_i a ^^^ gb_i b := by cases a <;> cases b <;> rfl
theorem gb_lin (P : Int32 → Prop) (h0 : P 0) (hs : ∀ x p, p < 32 → P x → P (x ^^^ gb_e p)) (x : Int32) : P x := by
  have t : ∀ n, n ≤ 32 → P (gb_tmN true x 0 n) := by
    intro n
    induction n with
    | zero => intro _; exact h0
    | succ n ih =>
      intro hn
      have ih := ih (by omega)
      unfold gb_tmN
      rw [Nat.or_zero, gb_PM true (show n < 32 by omega)]
      cases bt x n
      · exact ih
      · exact hs _ n (by omega) ih
  have t2 := t 32 (by omega)
  rw [show gb_tmN true x 0 32 = x from gb_tm_1 true x] at t2
  exact t2
def gb_mk (b c x2 m : Int32) : Int32 := if x2 &&& b = 0 then m &&& c else m
def gb_msk (x2 : Int32) : Int32 := gb_mk 16 65535 x2 (gb_mk 8 16711935 x2 (gb_mk 4 252645135 x2 (gb_mk 2 858993459 x2 (gb_mk 1 1431655765 x2 (-1)))))
theorem gb_parE : ∀ q, q < 32 → ∀ p, p < 32 → gb_pf (gb_e p &&& gb_msk (nI q)) = gb_i (gb_vl (gb_e p) q) := by decide +kernel
theorem gb_par {q : Nat} (hq : q < 32) (x : Int32) : gb_pf (x &&& gb_msk (nI q)) = gb_i (gb_vl x q) := by
  refine gb_lin (fun x => gb_pf (x &&& gb_msk (nI q)) = gb_i (gb_vl x q)) ?_ ?_ x
  · exact (by decide +kernel : ∀ q, q < 32 → gb_pf (0 &&& gb_msk (nI q)) = gb_i (gb_vl 0 q)) q hq
  · intro y p hp h
    have h : gb_pf (y &&& gb_msk (nI q)) = gb_i (gb_vl y q) := h
    show gb_pf ((y ^^^ gb_e p) &&& gb_msk (nI q)) = gb_i (gb_vl (y ^^^ gb_e p) q)
    have e1 : (y ^^^ gb_e p) &&& gb_msk (nI q) = (y &&& gb_msk (nI q)) ^^^ (gb_e p &&& gb_msk (nI q)) := by
      apply b_ext
      intro i hi
      simp only [b_xor, b_and]
      cases bt y i <;> cases bt (gb_e p) i <;> cases bt (gb_msk (nI q)) i <;> rfl
    rw [e1, gb_pfx, h, gb_parE q hq p hp, ← gb_ix2]
    unfold gb_vl
    rw [gb_vlNx]
end
section
/-! ===== the law ===== -/
theorem gb_32 {x : Int32} (h : nI 32 ≤ x) : ¬ x < 0 ∧ 31 < x ∧ 32 ≤ x := by
  have h1 := Int32.le_iff_toInt_le.mp h
  have e : (nI 32).toInt = 32 := by decide
  have e0 : (0 : Int32).toInt = 0 := by decide
  have e1 : (31 : Int32).toInt = 31 := by decide
  refine ⟨fun z => ?_, Int32.lt_iff_toInt_lt.mpr (by omega), h⟩
  have z := Int32.lt_iff_toInt_lt.mp z
  omega
/-- the point and its flag: out of range, or the parity below it is its value -/
def gb_Q (x x2 x6 m : Int32) : Prop := (x6 = 0 ∧ (x2 < 0 ∨ (¬ x2 < 0 ∧ 32 ≤ x2))) ∨ (x6 = 1 ∧ ∃ q, q < 32 ∧ x2 = nI q ∧ gb_pf (x &&& m) = gb_i (gb_vl x q))
theorem gb_Q_t {x x2 x6 b c m : Int32} (h : gb_Q x x2 x6 (gb_mk b c x2 m)) (e : x2 &&& b = 0) : gb_Q x x2 x6 (m &&& c) := by
  unfold gb_mk at h
  rw [if_pos e] at h
  exact h
theorem gb_Q_f {x x2 x6 b c m : Int32} (h : gb_Q x x2 x6 (gb_mk b c x2 m)) (e : ¬ x2 &&& b = 0) : gb_Q x x2 x6 m := by
  unfold gb_mk at h
  rw [if_neg e] at h
  exact h
section
variable {P : Int32 → St0 → Prop} {mc ms kc ks : Nat} {fk fw : Int32} {a1 a2 a3 a4 a5 a6 a7 a8 a9 : Nat → Int32} {K g : Bool} {p0 x x2 x3 x5 x6 x7 x8 z : Int32}
theorem gb_L297 (hP : P 1 ()) (hG : gb_G g p0 x K a1 a2 a3 a4 a7 a8 a9) : wL_lawOf_297 P mc ms p0 x z z kc ks fk fw a1 a2 a3 a4 a5 a6 a7 a8 a9 :=
  br_t rfl (gb_normal hG (fun fw' a5' a6' a7' a8' a9' => br_t rfl hP))
theorem gb_G_ord {K' : Bool} {a3' a4' : Nat → Int32} (hG : gb_G g p0 x K a1 a2 a3 a4 a7 a8 a9) (ht : gb_tab K' a3' a4') : gb_G g p0 x K' a1 a2 a3' a4' a7 a8 (upd (upd a9 0 0) 1 0) := by
  refine ⟨ht, ?_⟩
  rcases hG.2 with h | ⟨e, k, hk, ep, h2, h1, h9⟩
  · exact Or.inl h
  · refine Or.inr ⟨e, k, hk, ep, h2, h1, Or.inl ?_⟩
    by_cases e1 : k = 1
    · rw [e1, pk_us]
    · rw [pk_un e1, show k = 0 by omega, pk_us]
theorem gb_L272 (hP : P 1 ()) (hG : gb_G g p0 x K a1 a2 a3 a4 a7 a8 a9) : wL_lawOf_272 P mc ms p0 x x3 z z kc ks 0 fw a1 a2 a3 a4 a5 a6 a7 a8 a9 := by
  refine br_t rfl ?_
  by_cases e0 : x3 = 0
  · subst e0
    refine br_t rfl ?_
    exact gb_arr (K := false) (fun a3' a4' ht => nm_e (nm_e (br_t rfl (gb_L297 hP (gb_G_ord hG ht)))))
  · by_cases e1 : x3 = 1
    · subst e1
      refine br_f e0 (br_t rfl ?_)
      exact gb_arr (K := true) (fun a3' a4' ht => nm_e (nm_e (br_f e0 (br_t rfl (gb_L297 hP (gb_G_ord hG ht))))))
    · exact br_f e0 (br_f e1 (br_f e0 (br_f e1 (gb_L297 hP hG))))
theorem gb_L255 (hP : P 1 ()) (hG : gb_G g p0 x K a1 a2 a3 a4 a7 a8 a9) (h5 : x5 = gb_i g) : wL_lawOf_255 P mc ms p0 x x3 x5 kc ks 0 fw a1 a2 a3 a4 a5 a6 a7 a8 a9 := by
  subst h5
  refine gb_contains hG (fun fw' a5' a6' a7' a8' a9' hG' => ?_)
  cases g with
  | true => exact br_f (by decide) (gb_L272 hP hG')
  | false => exact br_t rfl (gb_L272 hP hG')
theorem gb_L207 (hP : P 1 ()) (hG : gb_G g p0 x K a1 a2 a3 a4 a7 a8 a9) (h5 : x5 = gb_i g) (h6 : x6 = 0 ∨ (x6 = 1 ∧ ∃ q, q < 32 ∧ x2 = nI q ∧ x8 = gb_i (gb_vl x q))) : wL_lawOf_207 P mc ms p0 x x2 x3 x5 x6 x8 z z kc ks 0 fw a1 a2 a3 a4 a5 a6 a7 a8 a9 := by
  refine br_t rfl ?_
  have go := @gb_L255 P mc ms kc ks fw a1 a2 a3 a4 a5 a6 a7 a8 a9 K g p0 x x3 x5 hP hG h5
  obtain ⟨ht, ⟨e, h0, h1⟩ | ⟨e, k, hk, ep, h2, h1, h9⟩⟩ := id hG
  · exact br_t (by rw [h5, e]; rfl) go
  · refine br_f (by rw [h5, e]; decide) ?_
    rcases h6 with h6 | ⟨h6, q, hq, eq, e8⟩
    · exact br_t h6 go
    · refine br_f (by rw [h6]; decide) ?_
      rw [ep, eq]
      refine gb_next hk h2 h1 hq (fun r hr => ?_)
      rw [← ep]
      cases hv : gb_vl x q with
      | false =>
        refine br_t (hr.mpr hv) (br_t (by rw [e8, hv]; rfl) (br_t rfl go))
      | true =>
        refine br_f (fun h => ?_) (br_f (by rw [e8, hv]; decide) (br_t rfl go))
        have t := hr.mp h
        rw [hv] at t
        exact absurd t (by decide)
theorem gb_L134 (hP : P 1 ()) (hG : gb_G g p0 x K a1 a2 a3 a4 a7 a8 a9) (h5 : x5 = gb_i g) (hQ : gb_Q x x2 x6 x7) : wL_lawOf_134 P mc ms p0 x x2 x3 x5 x6 x7 kc ks 0 fw a1 a2 a3 a4 a5 a6 a7 a8 a9 := by
  refine nm_e (nm_e (nm_e (nm_e (nm_e (nm_r (e' := gb_pf (x &&& x7)) rfl ?_)))))
  rcases hQ with ⟨e6, h | h⟩ | ⟨e6, q, hq, e2, hp⟩
  · exact br_t h (br_t e6 (gb_L207 hP hG h5 (Or.inl e6)))
  · exact br_f h.1 (br_t h.2 (br_t e6 (gb_L207 hP hG h5 (Or.inl e6))))
  · subst e2
    refine br_f (nI_pos (by omega)) (pk_le 32 q (fun z => absurd z (by omega)) (fun _ => gb_val hq ?_))
    rw [hp]
    exact br_f (by rw [e6]; decide) (gb_L207 hP hG h5 (Or.inr ⟨e6, q, hq, rfl, rfl⟩))
theorem gb_L120 (hP : P 1 ()) (hG : gb_G g p0 x K a1 a2 a3 a4 a7 a8 a9) (h5 : x5 = gb_i g) (hQ : gb_Q x x2 x6 (gb_mk 16 65535 x2 x7)) : wL_lawOf_120 P mc ms p0 x x2 x3 x5 x6 x7 kc ks 0 fw a1 a2 a3 a4 a5 a6 a7 a8 a9 :=
  br_c (fun e => nm_e (gb_L134 hP hG h5 (gb_Q_t hQ e))) (fun e => gb_L134 hP hG h5 (gb_Q_f hQ e))
theorem gb_L106 (hP : P 1 ()) (hG : gb_G g p0 x K a1 a2 a3 a4 a7 a8 a9) (h5 : x5 = gb_i g) (hQ : ∀ m, m = gb_mk 8 16711935 x2 x7 → gb_Q x x2 x6 (gb_mk 16 65535 x2 m)) : wL_lawOf_106 P mc ms p0 x x2 x3 x5 x6 x7 kc ks 0 fw a1 a2 a3 a4 a5 a6 a7 a8 a9 :=
  br_c (fun e => nm_e (gb_L120 hP hG h5 (hQ _ (by unfold gb_mk; rw [if_pos e])))) (fun e => gb_L120 hP hG h5 (hQ _ (by unfold gb_mk; rw [if_neg e])))
theorem gb_L93 (hP : P 1 ()) (hG : gb_G g p0 x K a1 a2 a3 a4 a7 a8 a9) (h5 : x5 = gb_i g) (hQ : ∀ m, m = gb_mk 4 252645135 x2 x7 → gb_Q x x2 x6 (gb_mk 16 65535 x2 (gb_mk 8 16711935 x2 m))) : wL_lawOf_93 P mc ms p0 x x2 x3 x5 x6 x7 kc ks 0 fw a1 a2 a3 a4 a5 a6 a7 a8 a9 :=
  br_c (fun e => nm_e (gb_L106 hP hG h5 (fun m em => by rw [em]; exact hQ _ (by unfold gb_mk; rw [if_pos e])))) (fun e => gb_L106 hP hG h5 (fun m em => by rw [em]; exact hQ _ (by unfold gb_mk; rw [if_neg e])))
theorem gb_L80 (hP : P 1 ()) (hG : gb_G g p0 x K a1 a2 a3 a4 a7 a8 a9) (h5 : x5 = gb_i g) (hQ : ∀ m, m = gb_mk 2 858993459 x2 x7 → gb_Q x x2 x6 (gb_mk 16 65535 x2 (gb_mk 8 16711935 x2 (gb_mk 4 252645135 x2 m)))) : wL_lawOf_80 P mc ms p0 x x2 x3 x5 x6 x7 kc ks 0 fw a1 a2 a3 a4 a5 a6 a7 a8 a9 :=
  br_c (fun e => nm_e (gb_L93 hP hG h5 (fun m em => by rw [em]; exact hQ _ (by unfold gb_mk; rw [if_pos e])))) (fun e => gb_L93 hP hG h5 (fun m em => by rw [em]; exact hQ _ (by unfold gb_mk; rw [if_neg e])))
theorem gb_L62 (hP : P 1 ()) (hG : gb_G g p0 x K a1 a2 a3 a4 a7 a8 a9) (h5 : x5 = gb_i g) (hQ : gb_Q x x2 x6 (gb_msk x2)) : wL_lawOf_62 P mc ms p0 x x2 x3 x5 x6 kc ks 0 fw a1 a2 a3 a4 a5 a6 a7 a8 a9 := by
  have hQ' : ∀ m, m = gb_mk 1 1431655765 x2 (-1) → gb_Q x x2 x6 (gb_mk 16 65535 x2 (gb_mk 8 16711935 x2 (gb_mk 4 252645135 x2 (gb_mk 2 858993459 x2 m)))) := fun m em => by rw [em]; exact hQ
  exact br_c (fun e => nm_e (gb_L80 hP hG h5 (fun m em => by rw [em]; exact hQ' _ (by unfold gb_mk; rw [if_pos e])))) (fun e => gb_L80 hP hG h5 (fun m em => by rw [em]; exact hQ' _ (by unfold gb_mk; rw [if_neg e])))
theorem gb_L42 (hP : P 1 ()) (hG : gb_G g p0 x K a1 a2 a3 a4 a7 a8 a9) (h5 : x5 = gb_i g) : wL_lawOf_42 P mc ms p0 x x2 x3 x5 z z kc ks 0 fw a1 a2 a3 a4 a5 a6 a7 a8 a9 := by
  refine br_t rfl ?_
  rcases pk_ix x2 (n := 32) (by decide) with h | h | ⟨q, hq, e⟩
  · exact br_t h (gb_L62 hP hG h5 (Or.inl ⟨rfl, Or.inl h⟩))
  · obtain ⟨t1, t2, t3⟩ := gb_32 h
    exact br_f t1 (br_t t2 (gb_L62 hP hG h5 (Or.inl ⟨rfl, Or.inr ⟨t1, t3⟩⟩)))
  · subst e
    exact br_f (nI_pos (by omega)) (pk_lt 31 q (fun z => absurd z (by omega)) (fun _ => gb_L62 hP hG h5 (Or.inr ⟨rfl, q, hq, rfl, gb_par hq x⟩)))
end
theorem gb_law (P : Int32 → St0 → Prop) (hP : P 1 ()) (p0 x x2 x3 : Int32) : wpL_lawOf P 10 241 () p0 x x2 x3 := by
  refine ⟨by decide, by decide, 9, 230, by decide, by decide, by decide, by decide, by decide, by decide, by decide, by decide, by decide, by decide, by decide, by decide, by decide, by decide, by decide, by decide, by decide, by decide, by decide, by decide, ?_⟩
  refine gb_arr (K := false) (fun a3 a4 ht => ?_)
  by_cases e0 : p0 = 0
  · subst e0
    refine br_t rfl ?_
    unfold wL_lawOf_18 wL_lawOf_23
    exact gb_gen (k := 0) (by decide) rfl (fun a1' a2' a9' h1 h2 h9 => br_f (by decide) (gb_L42 (g := true) hP ⟨ht, Or.inr ⟨rfl, 0, by decide, rfl, h2, h1, Or.inl h9⟩⟩ rfl))
  · by_cases e1 : p0 = 1
    · subst e1
      refine br_f e0 (br_t rfl ?_)
      unfold wL_lawOf_18 wL_lawOf_23
      exact gb_gen (k := 1) (by decide) rfl (fun a1' a2' a9' h1 h2 h9 => br_f (by decide) (gb_L42 (g := true) hP ⟨ht, Or.inr ⟨rfl, 1, by decide, rfl, h2, h1, Or.inl h9⟩⟩ rfl))
    · refine br_f e0 (br_f e1 ?_)
      unfold wL_lawOf_23 wpX_generate
      exact gb_isF e0 e1 (br_t rfl (br_t rfl (gb_L42 (g := false) hP ⟨ht, Or.inl ⟨rfl, e0, e1⟩⟩ rfl)))
theorem gb_cell {post : Int32 → Prop} {L : Nat} {xs : Nat → Int32} (hL : L ≤ 4) (j : Nat) (hj : j < 4) (H : ∀ r, post r) : wpL_cellAt post L xs () (nI j) :=
  pk_le L j (fun _ => H 0) (fun z => ⟨pk_in j L z, H _⟩)
theorem i_vc (xs : Nat → Int32) (L : Nat) (hL : L ≤ 4) : wpL_law (fun r => r = 1) L xs :=
  gb_cell hL 0 (by decide) (fun r1 => gb_cell hL 1 (by decide) (fun r2 => gb_cell hL 2 (by decide) (fun r3 => gb_cell hL 3 (by decide) (fun r4 => ⟨10, 241, by decide, by decide, gb_law _ rfl r1 r2 r3 r4⟩))))
end
