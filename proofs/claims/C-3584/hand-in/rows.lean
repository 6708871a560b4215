section
theorem pk_us {f : Nat → Int32} {k : Nat} {x : Int32} : upd f k x k = x := if_pos rfl
theorem pk_un {f : Nat → Int32} {k j : Nat} {x : Int32} (h : j ≠ k) : upd f k x j = f j := if_neg h
theorem pk_uLs {f : Nat → Int64} {k : Nat} {x : Int64} : vp_updL f k x k = x := if_pos rfl
theorem pk_uLn {f : Nat → Int64} {k j : Nat} {x : Int64} (h : j ≠ k) : vp_updL f k x j = f j := if_neg h
theorem pk_sub {a b : Nat} (h : b ≤ a) : nI a - nI b = nI (a - b) := by
  obtain ⟨c, rfl⟩ : ∃ c, a = c + b := ⟨a - b, by omega⟩
  rw [← nI_add, Int32.add_sub_cancel, Nat.add_sub_cancel]
theorem pk_m1 (n : Nat) : nI (n + 1) + (-1) = nI n := by
  rw [← nI_1, Int32.add_assoc, show (1 : Int32) + (-1) = 0 from rfl, Int32.add_zero]
theorem pk_mul (a b : Nat) : nI a * nI b = nI (a * b) := (Int32.ofNat_mul a b).symm
theorem pk_sub_toInt {a b : Nat} (ha : a < 2 ^ 30) (hb : b < 2 ^ 30) : (nI a - nI b).toInt = (a : Int) - b := by
  rw [Int32.toInt_sub, nI_toInt (by omega), nI_toInt (by omega)]
  exact Int.bmod_eq_of_le (by omega) (by omega)
theorem pk_sneg {a b : Nat} (hb : b < 2 ^ 30) (h : a < b) : nI a - nI b < 0 := by
  rw [Int32.lt_iff_toInt_lt, pk_sub_toInt (by omega) hb, show (0 : Int32).toInt = 0 from by decide]
  omega
theorem pk_ix (x : Int32) {n : Nat} (hn : n < 2 ^ 31) : x < 0 ∨ nI n ≤ x ∨ ∃ j : Nat, j < n ∧ x = nI j := by
  by_cases h : x < 0
  · exact Or.inl h
  · obtain ⟨j, hj, rfl⟩ := nI_of h
    by_cases h2 : j < n
    · exact Or.inr (Or.inr ⟨j, h2, rfl⟩)
    · exact Or.inr (Or.inl (nI_le (by omega) hj))
theorem pk_le {x y : Int32} {A B : Prop} (a b : Nat) (f : a ≤ b → A) (g : b < a → B) (hx : x = nI a := by rfl) (hy : y = nI b := by rfl) (ha : a < 2 ^ 31 := by omega) (hb : b < 2 ^ 31 := by omega) : (x ≤ y → A) ∧ (¬ x ≤ y → B) := by
  subst hx hy
  rw [nI_leI ha hb]
  exact ⟨f, fun z => g (by omega)⟩
theorem pk_lt {x y : Int32} {A B : Prop} (a b : Nat) (f : a < b → A) (g : b ≤ a → B) (hx : x = nI a := by rfl) (hy : y = nI b := by rfl) (ha : a < 2 ^ 31 := by omega) (hb : b < 2 ^ 31 := by omega) : (x < y → A) ∧ (¬ x < y → B) := by
  subst hx hy
  rw [nI_ltI ha hb]
  exact ⟨f, fun z => g (by omega)⟩
theorem pk_eq {x y : Int32} {A B : Prop} (a b : Nat) (f : a = b → A) (g : a ≠ b → B) (hx : x = nI a := by rfl) (hy : y = nI b := by rfl) (ha : a < 2 ^ 31 := by omega) (hb : b < 2 ^ 31 := by omega) : (x = y → A) ∧ (¬ x = y → B) := by
  subst hx hy
  rw [nI_eq ha hb]
  exact ⟨f, g⟩
theorem pk_in {x : Int32} (n N : Nat) (h : n < N) (hx : x = nI n := by rfl) (hN : N < 2 ^ 31 := by omega) : vp_in x N := by
  subst hx
  exact vp_in_nI h hN
theorem pk_cl {x : Int32} (n : Nat) (hx : x = nI n := by rfl) (h : n < 2 ^ 31 := by omega) : x.toNatClampNeg = n := by
  subst hx
  exact nI_clamp h
theorem pk_tn {n : Nat} (h : n < 2 ^ 32) : (nI n).toBitVec.toNat = n := Nat.mod_eq_of_lt h
theorem pk_and (x : Int32) {m : Int32} (k : Nat) (hm : m.toBitVec.toNat = 2 ^ k - 1) : x &&& m = nI (x.toBitVec.toNat % 2 ^ k) := by
  apply Int32.toBitVec_inj.mp
  apply BitVec.eq_of_toNat_eq
  rw [Int32.toBitVec_and, BitVec.toNat_and, hm, Nat.and_two_pow_sub_one_eq_mod]
  show _ = (BitVec.ofNat 32 _).toNat
  rw [BitVec.toNat_ofNat]
  exact (Nat.mod_eq_of_lt (Nat.lt_of_le_of_lt (Nat.mod_le _ _) x.toBitVec.isLt)).symm
theorem pk_andN {n : Nat} (h : n < 2 ^ 32) {m : Int32} (k : Nat) (hm : m.toBitVec.toNat = 2 ^ k - 1) : nI n &&& m = nI (n % 2 ^ k) := by
  rw [pk_and _ k hm, pk_tn h]
theorem pk_vb (z : Int32) : vp_nar .byte z.toInt8.toInt32 = z.toInt8.toInt32 := by rw [vp_nar_byte]; simp
theorem pk_least (P : Nat → Prop) (h : ∃ k, P k) : ∃ k, P k ∧ ∀ j, j < k → ¬ P j := by
  obtain ⟨k, hk⟩ := h
  induction k using Nat.strongRecOn with
  | ind k ih =>
    by_cases e : ∃ j, j < k ∧ P j
    · obtain ⟨j, hj, pj⟩ := e
      exact ih j hj pj
    · exact ⟨k, hk, fun j hj pj => e ⟨j, hj, pj⟩⟩
theorem ek_if {c d A B : Prop} (e : c ↔ d) (f : d → A) (g : ¬ d → B) : (c → A) ∧ (¬ c → B) :=
  ⟨fun z => f (e.mp z), fun z => g (fun y => z (e.mpr y))⟩
theorem ek_v {α : Sort _} {P : α → Prop} {a b : α} (e : a = b) (h : P b) : P a := e ▸ h
end
section
/-! numbers: plain integers as Java's longs (gf_l) and ints (gf_i), and the floor -/
def gf_l (n : Int) : Int64 := Int64.ofInt n
def gf_i (n : Int) : Int32 := Int32.ofInt n
def gf_B (n : Int) : Prop := -9223372036854775808 < n ∧ n < 9223372036854775808
def gf_S (n : Int) : Prop := -2147483648 < n ∧ n < 2147483648
theorem gf_SB {n : Int} (h : gf_S n) : gf_B n := by
  obtain ⟨h1, h2⟩ := h
  exact ⟨by omega, by omega⟩
theorem gf_l_toInt {n : Int} (h : gf_B n) : (gf_l n).toInt = n := by
  obtain ⟨h1, h2⟩ := h
  exact Int64.toInt_ofInt_of_le (by omega) (by omega)
theorem gf_i_toInt {n : Int} (h : gf_S n) : (gf_i n).toInt = n := by
  obtain ⟨h1, h2⟩ := h
  exact Int32.toInt_ofInt_of_le (by omega) (by omega)
theorem gf_l_add (a b : Int) : gf_l a + gf_l b = gf_l (a + b) := (Int64.ofInt_add a b).symm
theorem gf_l_sub (a b : Int) : gf_l a - gf_l b = gf_l (a - b) := (Int64.ofInt_sub a b).symm
theorem gf_l_mul (a b : Int) : gf_l a * gf_l b = gf_l (a * b) := (Int64.ofInt_mul a b).symm
theorem gf_i_add (a b : Int) : gf_i a + gf_i b = gf_i (a + b) := (Int32.ofInt_add a b).symm
theorem gf_i_sub (a b : Int) : gf_i a - gf_i b = gf_i (a - b) := (Int32.ofInt_sub a b).symm
theorem gf_i_mul (a b : Int) : gf_i a * gf_i b = gf_i (a * b) := (Int32.ofInt_mul a b).symm
theorem gf_i_neg (a : Int) : -gf_i a = gf_i (-a) := (Int32.ofInt_neg a).symm
theorem gf_l_eq {a b : Int} (ha : gf_B a) (hb : gf_B b) : gf_l a = gf_l b ↔ a = b :=
  ⟨fun h => by rw [← gf_l_toInt ha, h, gf_l_toInt hb], fun h => by rw [h]⟩
theorem gf_l_lt {a b : Int} (ha : gf_B a) (hb : gf_B b) : gf_l a < gf_l b ↔ a < b := by
  rw [Int64.lt_iff_toInt_lt, gf_l_toInt ha, gf_l_toInt hb]
theorem gf_l_le {a b : Int} (ha : gf_B a) (hb : gf_B b) : gf_l a ≤ gf_l b ↔ a ≤ b := by
  rw [Int64.le_iff_toInt_le, gf_l_toInt ha, gf_l_toInt hb]
theorem gf_i_eq {a b : Int} (ha : gf_S a) (hb : gf_S b) : gf_i a = gf_i b ↔ a = b :=
  ⟨fun h => by rw [← gf_i_toInt ha, h, gf_i_toInt hb], fun h => by rw [h]⟩
theorem gf_i_lt {a b : Int} (ha : gf_S a) (hb : gf_S b) : gf_i a < gf_i b ↔ a < b := by
  rw [Int32.lt_iff_toInt_lt, gf_i_toInt ha, gf_i_toInt hb]
theorem gf_i_le {a b : Int} (ha : gf_S a) (hb : gf_S b) : gf_i a ≤ gf_i b ↔ a ≤ b := by
  rw [Int32.le_iff_toInt_le, gf_i_toInt ha, gf_i_toInt hb]
theorem gf_l_div {a b : Int} (ha : gf_B a) (hb : gf_B b) : gf_l a / gf_l b = gf_l (a.tdiv b) := by
  obtain ⟨h1, h2⟩ := ha
  obtain ⟨h3, h4⟩ := hb
  have e1 := Int64.toInt_minValue
  have e2 := Int64.toInt_maxValue
  exact (Int64.ofInt_tdiv (by omega) (by omega) (by omega) (by omega)).symm
theorem gf_i_div {a b : Int} (ha : gf_S a) (hb : gf_S b) : gf_i a / gf_i b = gf_i (a.tdiv b) := by
  obtain ⟨h1, h2⟩ := ha
  obtain ⟨h3, h4⟩ := hb
  have e1 := Int32.toInt_minValue
  have e2 := Int32.toInt_maxValue
  exact (Int32.ofInt_tdiv (by omega) (by omega) (by omega) (by omega)).symm
theorem gf_i_l {n : Int} (h : gf_S n) : (gf_i n).toInt64 = gf_l n := by
  apply Int64.toInt_inj.mp
  rw [Int32.toInt_toInt64, gf_i_toInt h, gf_l_toInt (gf_SB h)]
theorem gf_l_i (n : Int) : (gf_l n).toInt32 = gf_i n := Int64.toInt32_ofInt
theorem gf_nI (n : Nat) : gf_i (n : Int) = nI n := Int32.ofInt_eq_ofNat
theorem gf_i_of (x : Int32) : x = gf_i x.toInt := (Int32.ofInt_toInt x).symm
theorem gf_l_of (x : Int64) : x = gf_l x.toInt := (Int64.ofInt_toInt x).symm
theorem gf_l0 : (0 : Int64) = gf_l 0 := by decide
theorem gf_l1 : (1 : Int64) = gf_l 1 := by decide
theorem gf_l9 : (9999 : Int64) = gf_l 9999 := by decide
theorem gf_lm9 : (-9999 : Int64) = gf_l (-9999) := by decide
theorem gf_i0 : (0 : Int32) = gf_i 0 := by decide
theorem gf_i1 : (1 : Int32) = gf_i 1 := by decide
theorem gf_i9 : (9999 : Int32) = gf_i 9999 := by decide
theorem gf_im9 : (-9999 : Int32) = gf_i (-9999) := by decide
theorem gf_im1 : (-1 : Int32) = gf_i (-1) := by decide
theorem gf_B0 : gf_B 0 := ⟨by omega, by omega⟩
theorem gf_S0 : gf_S 0 := ⟨by omega, by omega⟩

/-! the floor -/
theorem gf_fd_pos {a b w : Int} (hb : 0 < b) (h1 : w * b ≤ a) (h2 : a < w * b + b) : a.fdiv b = w := by
  have e : b * w = w * b := Int.mul_comm b w
  exact ((Int.fdiv_fmod_unique (a := a) (b := b) (r := a - b * w) (q := w) hb).mpr ⟨by omega, by omega, by omega⟩).1
theorem gf_fd_neg {a b w : Int} (hb : b < 0) (h1 : a ≤ w * b) (h2 : w * b + b < a) : a.fdiv b = w := by
  have e : b * w = w * b := Int.mul_comm b w
  exact ((Int.fdiv_fmod_unique' (a := a) (b := b) (r := a - b * w) (q := w) hb).mpr ⟨by omega, by omega, by omega⟩).1
theorem gf_fd_p (a : Int) {b : Int} (hb : 0 < b) : a.fdiv b * b ≤ a ∧ a < a.fdiv b * b + b := by
  have h1 := Int.fdiv_mul_add_fmod a b
  have h2 := Int.fmod_nonneg_of_pos a hb
  have h3 := Int.fmod_lt_of_pos a hb
  exact ⟨by omega, by omega⟩
theorem gf_fd_n (a : Int) {b : Int} (hb : b < 0) : a ≤ a.fdiv b * b ∧ a.fdiv b * b + b < a := by
  have h := gf_fd_p (-a) (b := -b) (by omega)
  rw [Int.neg_fdiv_neg, Int.mul_neg] at h
  exact ⟨by omega, by omega⟩
theorem gf_td (a b : Int) : ∃ m : Int, a.tdiv b * b + m = a ∧ (0 ≤ a → 0 ≤ m) ∧ (a ≤ 0 → m ≤ 0) ∧ (0 < b → -b < m ∧ m < b) ∧ (b < 0 → b < m ∧ m < -b) := by
  refine ⟨a.tmod b, Int.tdiv_mul_add_tmod a b, fun h => Int.tmod_nonneg b h, fun h => ?_, fun h => ⟨Int.lt_tmod_of_pos a h, Int.tmod_lt_of_pos a h⟩, fun h => ?_⟩
  · have := Int.tmod_nonneg (a := -a) b (by omega)
    rw [Int.neg_tmod] at this
    omega
  · have h1 := Int.lt_tmod_of_pos a (b := -b) (by omega)
    have h2 := Int.tmod_lt_of_pos a (b := -b) (by omega)
    rw [Int.tmod_neg] at h1 h2
    exact ⟨by omega, by omega⟩
theorem gf_fl_a {a b : Int} (hb : b ≠ 0) (h : a.tdiv b * b = a) : a.fdiv b = a.tdiv b := by
  by_cases p : 0 < b
  · exact gf_fd_pos p (by omega) (by omega)
  · exact gf_fd_neg (by omega) (by omega) (by omega)
theorem gf_fl_b {a b : Int} (hb : b ≠ 0) (hs : 0 ≤ a ↔ 0 ≤ b) : a.fdiv b = a.tdiv b := by
  obtain ⟨m, h1, h2, h3, h4, h5⟩ := gf_td a b
  by_cases p : 0 < b
  · have := h4 p
    have := h2 (by omega)
    exact gf_fd_pos p (by omega) (by omega)
  · have := h5 (by omega)
    have := h3 (by omega)
    exact gf_fd_neg (by omega) (by omega) (by omega)
theorem gf_fl_c {a b : Int} (hb : b ≠ 0) (h : ¬ a.tdiv b * b = a) (hs : ¬ (0 ≤ a ↔ 0 ≤ b)) : a.fdiv b = a.tdiv b - 1 := by
  obtain ⟨m, h1, h2, h3, h4, h5⟩ := gf_td a b
  have e : (a.tdiv b - 1) * b = a.tdiv b * b - b := by rw [Int.sub_mul, Int.one_mul]
  by_cases p : 0 < b
  · have := h4 p
    have := h3 (by omega)
    exact gf_fd_pos p (by omega) (by omega)
  · have := h5 (by omega)
    have := h2 (by omega)
    exact gf_fd_neg (by omega) (by omega) (by omega)
theorem gf_fd_scale {k : Int} (hk : k ≠ 0) (p q : Int) : (k * p).fdiv (k * q) = p.fdiv q := by
  by_cases h : 0 < k
  · exact Int.mul_fdiv_mul_of_pos p q h
  · have := Int.mul_fdiv_mul_of_pos p q (a := -k) (by omega)
    rw [Int.neg_mul, Int.neg_mul, Int.neg_fdiv_neg] at this
    exact this
/-- the reference's floor of a negative numerator -/
theorem gf_fl_y {p q : Int} (hq : 0 < q) (hp : p < 0) : -((q - 1 - p).tdiv q) = p.fdiv q := by
  obtain ⟨m, h1, h2, h3, h4, h5⟩ := gf_td (q - 1 - p) q
  have := h4 hq
  have := h2 (by omega)
  have e : -((q - 1 - p).tdiv q) * q = -((q - 1 - p).tdiv q * q) := Int.neg_mul _ _
  exact (gf_fd_pos hq (by omega) (by omega)).symm
end
section
/-! chains: gf_cf (by division with a rest), gf_ev (the value of a chain) -/
theorem gf_cf_dec {p q : Int} (h : ¬ q = 0) : (p - p.fdiv q * q).natAbs < q.natAbs := by
  by_cases c : 0 < q
  · have := gf_fd_p p c
    omega
  · have := gf_fd_n p (b := q) (by omega)
    omega
def gf_cf (p q : Int) : List Int :=
  if h : q = 0 then [] else p.fdiv q :: gf_cf q (p - p.fdiv q * q)
termination_by q.natAbs
decreasing_by exact gf_cf_dec h
theorem gf_cf_0 (p : Int) : gf_cf p 0 = [] := by
  rw [gf_cf]
  exact dif_pos rfl
theorem gf_cf_s {p q : Int} (h : q ≠ 0) : gf_cf p q = p.fdiv q :: gf_cf q (p - p.fdiv q * q) := by
  conv => lhs; rw [gf_cf]
  exact dif_neg h
theorem gf_cf_w {p q w r : Int} (h : q ≠ 0) (hw : p.fdiv q = w) (hr : r = p - w * q) : gf_cf p q = w :: gf_cf q r := by
  subst hw hr
  exact gf_cf_s h
theorem gf_cf_nil {p q : Int} (h : gf_cf p q = []) : q = 0 := by
  by_cases c : q = 0
  · exact c
  · rw [gf_cf_s c] at h
    exact absurd h (List.cons_ne_nil _ _)
theorem gf_cf_scale0 : ∀ (n : Nat) (p q k : Int), q.natAbs ≤ n → k ≠ 0 → gf_cf (k * p) (k * q) = gf_cf p q := by
  intro n
  induction n with
  | zero =>
    intro p q k hq hk
    have : q = 0 := by omega
    subst this
    rw [Int.mul_zero, gf_cf_0, gf_cf_0]
  | succ n ih =>
    intro p q k hq hk
    by_cases c : q = 0
    · subst c
      rw [Int.mul_zero, gf_cf_0, gf_cf_0]
    · rw [gf_cf_s c, gf_cf_s (Int.mul_ne_zero hk c), gf_fd_scale hk]
      have e : k * p - p.fdiv q * (k * q) = k * (p - p.fdiv q * q) := by grind
      rw [e, ih q _ k (by have := gf_cf_dec (p := p) c; omega) hk]
theorem gf_cf_scale {k : Int} (p q : Int) (hk : k ≠ 0) : gf_cf (k * p) (k * q) = gf_cf p q := gf_cf_scale0 _ p q k (Nat.le_refl _) hk
def gf_ev : List Int → Int × Int
  | [] => (1, 0)
  | a :: l => (a * (gf_ev l).1 + (gf_ev l).2, (gf_ev l).1)
theorem gf_ev_1 (a : Int) (l : List Int) : (gf_ev (a :: l)).1 = a * (gf_ev l).1 + (gf_ev l).2 := rfl
theorem gf_ev_2 (a : Int) (l : List Int) : (gf_ev (a :: l)).2 = (gf_ev l).1 := rfl
theorem gf_ev_cop (l : List Int) : Int.gcd (gf_ev l).1 (gf_ev l).2 = 1 := by
  induction l with
  | nil => rfl
  | cons a l ih =>
    rw [gf_ev_1, gf_ev_2, Int.gcd_mul_right_add_left, Int.gcd_comm]
    exact ih
theorem gf_ev_cf0 : ∀ (n : Nat) (p q : Int), q.natAbs ≤ n → (0 < q ∨ (q = 0 ∧ 0 < p)) → ∃ g : Int, 0 < g ∧ p = g * (gf_ev (gf_cf p q)).1 ∧ q = g * (gf_ev (gf_cf p q)).2 := by
  intro n
  induction n with
  | zero =>
    intro p q hq h
    have : q = 0 := by omega
    subst this
    rw [gf_cf_0]
    refine ⟨p, by omega, ?_, ?_⟩
    · show p = p * 1
      omega
    · show 0 = p * 0
      omega
  | succ n ih =>
    intro p q hq h
    by_cases c : q = 0
    · subst c
      rw [gf_cf_0]
      refine ⟨p, by omega, ?_, ?_⟩
      · show p = p * 1
        omega
      · show 0 = p * 0
        omega
    · have c' : 0 < q := by omega
      have f := gf_fd_p p c'
      obtain ⟨g, g0, g1, g2⟩ := ih q (p - p.fdiv q * q) (by have := gf_cf_dec (p := p) c; omega) (by omega)
      rw [gf_cf_s c]
      refine ⟨g, g0, ?_, ?_⟩
      · rw [gf_ev_1]
        generalize gf_ev (gf_cf q (p - p.fdiv q * q)) = z at g1 g2
        generalize p.fdiv q = w at g1 g2
        grind
      · rw [gf_ev_2]
        exact g1
theorem gf_ev_cf {p q : Int} (h : 0 < q) : ∃ g : Int, 0 < g ∧ p = g * (gf_ev (gf_cf p q)).1 ∧ q = g * (gf_ev (gf_cf p q)).2 := gf_ev_cf0 _ p q (Nat.le_refl _) (Or.inl h)
theorem gf_ev_ok {p q : Int} (h : 0 < q) (hc : Int.gcd p q = 1) : gf_ev (gf_cf p q) = (p, q) := by
  obtain ⟨g, g0, g1, g2⟩ := gf_ev_cf (p := p) h
  have k := gf_ev_cop (gf_cf p q)
  generalize gf_ev (gf_cf p q) = z at g1 g2 k
  obtain ⟨x, y⟩ := z
  rw [g1, g2, Int.gcd_mul_left] at hc
  dsimp only at hc k g1 g2
  rw [k, Nat.mul_one] at hc
  have : g = 1 := by omega
  subst this
  rw [g1, g2, Int.one_mul, Int.one_mul]
theorem gf_ev_pos {p q : Int} (h : 0 < q) : 0 < (gf_ev (gf_cf p q)).2 := by
  obtain ⟨g, g0, g1, g2⟩ := gf_ev_cf (p := p) h
  rw [g2] at h
  rw [Int.mul_comm] at h
  exact Int.pos_of_mul_pos_left h g0
/-- the tail of a chain: terms from 1 on, the last from 2 on -/
def gf_tl : List Int → Prop
  | [] => True
  | a :: l => 1 ≤ a ∧ (l = [] → 2 ≤ a) ∧ gf_tl l
theorem gf_w1 {p q w : Int} (hq : 0 < q) (h : q < p) (hw : p < w * q + q) : 1 ≤ w := by
  by_cases c : 1 ≤ w
  · exact c
  · have : w * q ≤ 0 * q := Int.mul_le_mul_of_nonneg_right (by omega) (by omega)
    omega
theorem gf_tl_cf0 : ∀ (n : Nat) (p q : Int), q.natAbs ≤ n → 0 ≤ q → q < p → gf_tl (gf_cf p q) := by
  intro n
  induction n with
  | zero =>
    intro p q hq h0 h1
    have : q = 0 := by omega
    subst this
    rw [gf_cf_0]
    trivial
  | succ n ih =>
    intro p q hq h0 h1
    by_cases c : q = 0
    · subst c
      rw [gf_cf_0]
      trivial
    · have f := gf_fd_p p (b := q) (by omega)
      have w1 := gf_w1 (by omega) h1 f.2
      rw [gf_cf_s c]
      refine ⟨w1, fun e => ?_, ih q _ (by have := gf_cf_dec (p := p) c; omega) (by omega) (by omega)⟩
      have e := gf_cf_nil e
      by_cases c2 : 2 ≤ p.fdiv q
      · exact c2
      · have : p.fdiv q = 1 := by omega
        rw [this] at e
        omega
theorem gf_tl_cf {p q : Int} (h0 : 0 ≤ q) (h1 : q < p) : gf_tl (gf_cf p q) := gf_tl_cf0 _ p q (Nat.le_refl _) h0 h1
theorem gf_tl_ev : ∀ l : List Int, gf_tl l → 0 ≤ (gf_ev l).2 ∧ (gf_ev l).2 < (gf_ev l).1 ∧ (l ≠ [] → 1 ≤ (gf_ev l).2) := by
  intro l
  induction l with
  | nil => exact fun _ => ⟨by decide, by decide, fun h => absurd rfl h⟩
  | cons a l ih =>
    intro h
    obtain ⟨h1, h2, h3⟩ := h
    obtain ⟨i1, i2, i3⟩ := ih h3
    rw [gf_ev_1, gf_ev_2]
    refine ⟨by omega, ?_, fun _ => by omega⟩
    have m : 1 * (gf_ev l).1 ≤ a * (gf_ev l).1 := Int.mul_le_mul_of_nonneg_right h1 (by omega)
    by_cases c : l = []
    · subst c
      show (1 : Int) < a * 1 + 0
      have := h2 rfl
      omega
    · have := i3 c
      omega
theorem gf_cf_cons {a : Int} {l : List Int} (h : gf_tl l) (e : gf_cf (gf_ev l).1 (gf_ev l).2 = l) : gf_cf (gf_ev (a :: l)).1 (gf_ev (a :: l)).2 = a :: l := by
  obtain ⟨h1, h2, _⟩ := gf_tl_ev l h
  rw [gf_ev_1, gf_ev_2, gf_cf_w (w := a) (r := (gf_ev l).2) (by omega) (gf_fd_pos (by omega) (by omega) (by omega)) (by omega), e]
theorem gf_cf_tl : ∀ l : List Int, gf_tl l → gf_cf (gf_ev l).1 (gf_ev l).2 = l := by
  intro l
  induction l with
  | nil => exact fun _ => gf_cf_0 1
  | cons a l ih => exact fun h => gf_cf_cons h.2.2 (ih h.2.2)
theorem gf_cf_ev {a : Int} {l : List Int} (h : gf_tl l) : gf_cf (gf_ev (a :: l)).1 (gf_ev (a :: l)).2 = a :: l := gf_cf_cons h (gf_cf_tl l h)
theorem gf_cf_tail {p q : Int} (h : 0 < q) : ∃ l, gf_cf p q = p.fdiv q :: l ∧ gf_tl l := by
  have f := gf_fd_p p h
  exact ⟨_, gf_cf_s (by omega), gf_tl_cf (by omega) (by omega)⟩
/-! lengths and ranges -/
def gf_G : Nat → Int
  | 0 => 1
  | 1 => 1
  | n + 2 => gf_G (n + 1) + gf_G n
theorem gf_G_len : ∀ n : Nat, (∀ p q : Int, 0 < q → n ≤ (gf_cf p q).length → gf_G n ≤ q) ∧ (∀ p q : Int, 0 < q → n + 1 ≤ (gf_cf p q).length → gf_G (n + 1) ≤ q) := by
  intro n
  induction n with
  | zero => exact ⟨fun p q h _ => by show (1 : Int) ≤ q; omega, fun p q h _ => by show (1 : Int) ≤ q; omega⟩
  | succ n ih =>
    refine ⟨ih.2, fun p q h hl => ?_⟩
    have f := gf_fd_p p h
    rw [gf_cf_s (by omega), List.length_cons] at hl
    generalize hr : p - p.fdiv q * q = r at hl
    by_cases c : r = 0
    · subst c
      rw [gf_cf_0, List.length_nil] at hl
      omega
    · have k1 := ih.2 q r (by omega) (by omega)
      have f2 := gf_fd_p q (b := r) (by omega)
      have w1 := gf_w1 (p := q) (q := r) (by omega) (by omega) f2.2
      have m : 1 * r ≤ q.fdiv r * r := Int.mul_le_mul_of_nonneg_right w1 (by omega)
      rw [gf_cf_s (p := q) c, List.length_cons] at hl
      generalize hs : q - q.fdiv r * r = s at hl
      show gf_G (n + 1) + gf_G n ≤ q
      by_cases c2 : s = 0
      · subst c2
        rw [gf_cf_0, List.length_nil] at hl
        have : n = 0 := by omega
        subst this
        show (1 : Int) + 1 ≤ q
        omega
      · have k2 := ih.1 r s (by omega) (by omega)
        omega
theorem gf_len {p q : Int} (h0 : 0 < q) (h : q ≤ 9999) : (gf_cf p q).length ≤ 19 := by
  by_cases c : (gf_cf p q).length ≤ 19
  · exact c
  · have := (gf_G_len 20).1 p q h0 (by omega)
    have e : gf_G 20 = 10946 := by decide +kernel
    omega
theorem gf_rng0 (M : Int) : ∀ (n : Nat) (p q : Int), q.natAbs ≤ n → 0 ≤ q → q < p → p ≤ M → ∀ x, x ∈ gf_cf p q → 1 ≤ x ∧ x ≤ M := by
  intro n
  induction n with
  | zero =>
    intro p q hq h0 h1 hM x hx
    have : q = 0 := by omega
    subst this
    rw [gf_cf_0] at hx
    exact absurd hx (List.not_mem_nil)
  | succ n ih =>
    intro p q hq h0 h1 hM x hx
    by_cases c : q = 0
    · subst c
      rw [gf_cf_0] at hx
      exact absurd hx (List.not_mem_nil)
    · have f := gf_fd_p p (b := q) (by omega)
      have w1 := gf_w1 (by omega) h1 f.2
      rw [gf_cf_s c] at hx
      rcases List.mem_cons.mp hx with hx | hx
      · subst hx
        refine ⟨w1, ?_⟩
        have : p.fdiv q * 1 ≤ p.fdiv q * q := Int.mul_le_mul_of_nonneg_left (by omega) (by omega)
        omega
      · exact ih q _ (by have := gf_cf_dec (p := p) c; omega) (by omega) (by omega) (by omega) x hx
theorem gf_fdr {p q M : Int} (hq : 0 < q) (h1 : -M ≤ p) (h2 : p ≤ M) : -M ≤ p.fdiv q ∧ p.fdiv q ≤ M := by
  have f := gf_fd_p p hq
  have hM : 0 ≤ M := by omega
  constructor
  · by_cases c : -M ≤ p.fdiv q
    · exact c
    · have : (p.fdiv q + 1) * q ≤ (p.fdiv q + 1) * 1 := Int.mul_le_mul_of_nonpos_left (by omega) (by omega)
      rw [Int.add_mul] at this
      omega
  · by_cases c : p.fdiv q ≤ M
    · exact c
    · have : p.fdiv q * 1 ≤ p.fdiv q * q := Int.mul_le_mul_of_nonneg_left (by omega) (by omega)
      omega
theorem gf_rng {p q M : Int} (hq : 0 < q) (h1 : -M ≤ p) (h2 : p ≤ M) (h3 : q ≤ M) : ∀ x, x ∈ gf_cf p q → -M ≤ x ∧ x ≤ M := by
  intro x hx
  have f := gf_fd_p p hq
  rw [gf_cf_s (by omega)] at hx
  rcases List.mem_cons.mp hx with hx | hx
  · subst hx
    exact gf_fdr hq h1 h2
  · have := gf_rng0 M _ q _ (Nat.le_refl _) (by omega) (by omega) h3 x hx
    omega
/-- what fits: at most 22 terms within 9999 -/
def gf_fit (L : List Int) : Prop := L.length ≤ 22 ∧ ∀ x, x ∈ L → -9999 ≤ x ∧ x ≤ 9999
/-- a fraction that a register may hold -/
def gf_ok (p q : Int) : Prop := -9999 ≤ p ∧ p ≤ 9999 ∧ 1 ≤ q ∧ q ≤ 9999 ∧ Int.gcd p q = 1
theorem gf_ok_fit {p q : Int} (h1 : -9999 ≤ p) (h2 : p ≤ 9999) (h3 : 1 ≤ q) (h4 : q ≤ 9999) : gf_fit (gf_cf p q) :=
  ⟨by have := gf_len (p := p) (q := q) (by omega) h4; omega, gf_rng (by omega) h1 h2 h4⟩
/-! lists in arrays -/
def gf_at (f : Nat → Int32) (b : Nat) (L : List Int) : Prop := ∀ i, i < L.length → f (b + i) = gf_i (L.getD i 0)
theorem gf_drop_cons : ∀ (L : List Int) (i : Nat) (w : Int) (l : List Int), L.drop i = w :: l → i < L.length ∧ L.getD i 0 = w ∧ L.drop (i + 1) = l := by
  intro L
  induction L with
  | nil =>
    intro i w l h
    rw [List.drop_nil] at h
    exact absurd h.symm (List.cons_ne_nil _ _)
  | cons a L ih =>
    intro i w l h
    cases i with
    | zero =>
      rw [List.drop_zero] at h
      injection h with h1 h2
      exact ⟨by rw [List.length_cons]; omega, h1, h2⟩
    | succ i =>
      rw [List.drop_succ_cons] at h
      obtain ⟨k1, k2, k3⟩ := ih i w l h
      exact ⟨by rw [List.length_cons]; omega, k2, k3⟩
theorem gf_drop_lt {L : List Int} {i : Nat} (h : i < L.length) : L.drop i = L.getD i 0 :: L.drop (i + 1) := by
  cases e : L.drop i with
  | nil =>
    have := List.drop_eq_nil_iff.mp e
    omega
  | cons w l =>
    obtain ⟨_, k2, k3⟩ := gf_drop_cons L i w l e
    rw [k2, k3]
theorem gf_getD_mem {L : List Int} {i : Nat} (h : i < L.length) : L.getD i 0 ∈ L := by
  have e := gf_drop_lt h
  have m : L.getD i 0 ∈ L.drop i := by rw [e]; exact List.mem_cons_self
  exact List.mem_of_mem_drop m
end
section
/-! the component's small methods -/
def gf_rg (p : Int32) : Prop := ∃ r : Nat, r < 4 ∧ p = nI r
theorem gf_isX1 {post : Int32 → Prop} {u : SX} {r : Nat} (hr : r < 4) (h : post 1) : wpX_isRegister post u (nI r) := by
  obtain ⟨a, b, c, d, e, f⟩ := u
  exact br_f (nI_pos (by omega)) (br_f (nI_ge (b := 4) hr (by omega)) h)
theorem gf_isX0 {post : Int32 → Prop} {u : SX} {p : Int32} (hr : ¬ gf_rg p) (h : post 0) : wpX_isRegister post u p := by
  obtain ⟨a, b, c, d, e, f⟩ := u
  refine br_c (fun _ => h) fun h0 => br_c (fun _ => h) fun h4 => ?_
  obtain ⟨j, hj, rfl⟩ := nI_of h0
  refine absurd ⟨j, ?_, rfl⟩ hr
  by_cases c : j < 4
  · exact c
  · exact absurd (nI_le (a := 4) (by omega) hj) h4
theorem gf_isY1 {post : Int32 → Prop} {u : SY} {r : Nat} (hr : r < 4) (h : post 1) : wpY_isRegister post u (nI r) := by
  obtain ⟨a, b, c, d⟩ := u
  exact br_f (nI_pos (by omega)) (br_f (nI_ge (b := 4) hr (by omega)) h)
theorem gf_isY0 {post : Int32 → Prop} {u : SY} {p : Int32} (hr : ¬ gf_rg p) (h : post 0) : wpY_isRegister post u p := by
  obtain ⟨a, b, c, d⟩ := u
  refine br_c (fun _ => h) fun h0 => br_c (fun _ => h) fun h4 => ?_
  obtain ⟨j, hj, rfl⟩ := nI_of h0
  refine absurd ⟨j, ?_, rfl⟩ hr
  by_cases c : j < 4
  · exact c
  · exact absurd (nI_le (a := 4) (by omega) hj) h4
theorem gf_ne10 : ¬ (1 : Int32) = 0 := by decide
theorem gf_ne01 : ¬ (0 : Int32) = 1 := by decide
theorem gf_le0 {a : Int} (ha : gf_B a) : (0 : Int64) ≤ gf_l a ↔ 0 ≤ a := by
  rw [gf_l0]
  exact gf_l_le gf_B0 ha
theorem gf_eq0 {a : Int} (ha : gf_B a) : gf_l a = 0 ↔ a = 0 := by
  rw [gf_l0]
  exact gf_l_eq ha gf_B0
theorem gf_floored {post : Int64 → Prop} {u : SX} {a b : Int} (ha : gf_B a) (hb : gf_B b) (h0 : b ≠ 0) (h : post (gf_l (a.fdiv b))) : wpX_floored post u (gf_l a) (gf_l b) := by
  obtain ⟨ov, vt, vb, cnt, chn, tb⟩ := u
  have hB : gf_B (a.tdiv b * b) := by
    obtain ⟨m, h1, h2, h3, h4, h5⟩ := gf_td a b
    obtain ⟨b1, b2⟩ := hb
    obtain ⟨a1, a2⟩ := ha
    by_cases sa : 0 ≤ a
    · have := h2 sa
      by_cases sb : 0 < b
      · have := h4 sb
        exact ⟨by omega, by omega⟩
      · have := h5 (by omega)
        exact ⟨by omega, by omega⟩
    · have := h3 (by omega)
      by_cases sb : 0 < b
      · have := h4 sb
        exact ⟨by omega, by omega⟩
      · have := h5 (by omega)
        exact ⟨by omega, by omega⟩
  have he : gf_l (a.tdiv b) * gf_l b = gf_l a ↔ a.tdiv b * b = a := by
    rw [gf_l_mul]
    exact gf_l_eq hB ha
  refine And.intro (fun z => h0 ((gf_eq0 hb).mp z)) (nm_r (gf_l_div ha hb) ?_)
  by_cases ce : a.tdiv b * b = a
  · rw [gf_fl_a h0 ce] at h
    refine br_t (he.mpr ce) ?_
    by_cases sa : 0 ≤ a
    · by_cases sb : 0 ≤ b
      · exact br_t ((gf_le0 ha).mpr sa) (br_t ((gf_le0 hb).mpr sb) (br_t rfl (br_t rfl h)))
      · exact br_t ((gf_le0 ha).mpr sa) (br_f (fun z => sb ((gf_le0 hb).mp z)) (br_f gf_ne01 (br_t rfl h)))
    · by_cases sb : 0 ≤ b
      · exact br_f (fun z => sa ((gf_le0 ha).mp z)) (br_t ((gf_le0 hb).mpr sb) (br_f gf_ne10 (br_t rfl h)))
      · exact br_f (fun z => sa ((gf_le0 ha).mp z)) (br_f (fun z => sb ((gf_le0 hb).mp z)) (br_t rfl (br_t rfl h)))
  · refine br_f (fun z => ce (he.mp z)) ?_
    by_cases sa : 0 ≤ a
    · by_cases sb : 0 ≤ b
      · rw [gf_fl_b h0 ⟨fun _ => sb, fun _ => sa⟩] at h
        exact br_t ((gf_le0 ha).mpr sa) (br_t ((gf_le0 hb).mpr sb) (br_t rfl (br_f gf_ne10 (br_t rfl h))))
      · rw [gf_fl_c h0 ce (fun z => sb (z.mp sa)), ← gf_l_sub, ← gf_l1] at h
        exact br_t ((gf_le0 ha).mpr sa) (br_f (fun z => sb ((gf_le0 hb).mp z)) (br_f gf_ne01 (br_f gf_ne10 (br_f gf_ne10 h))))
    · by_cases sb : 0 ≤ b
      · rw [gf_fl_c h0 ce (fun z => sa (z.mpr sb)), ← gf_l_sub, ← gf_l1] at h
        exact br_f (fun z => sa ((gf_le0 ha).mp z)) (br_t ((gf_le0 hb).mpr sb) (br_f gf_ne10 (br_f gf_ne10 (br_f gf_ne10 h))))
      · rw [gf_fl_b h0 ⟨fun z => absurd z sa, fun z => absurd z sb⟩] at h
        exact br_f (fun z => sa ((gf_le0 ha).mp z)) (br_f (fun z => sb ((gf_le0 hb).mp z)) (br_t rfl (br_f gf_ne10 (br_t rfl h))))
/-! evaluate -/
theorem gf_ix (r i : Nat) : (24 : Int32) * nI r + nI i = nI (24 * r + i) := by
  have e : (24 : Int32) * nI r = nI (24 * r) := pk_mul 24 r
  rw [e, nI_add]
theorem gf_cl (r i : Nat) (h : 24 * r + i < 2 ^ 31) : ((24 : Int32) * nI r + nI i).toNatClampNeg = 24 * r + i := by
  rw [gf_ix, nI_clamp h]
theorem gf_pm (j : Nat) : nI j + (-1) = gf_i ((j : Int) - 1) := by
  rw [gf_im1, ← gf_nI, gf_i_add]
  rfl
theorem gf_eval27 {post : SX → Prop} {ov : Int32} {cnt chn : Nat → Int32} {tb : Nat → Int64} {r : Nat} (hr : r < 5) {L : List Int} (hl : L.length ≤ 24) (hat : gf_at chn (24 * r) L) (hS : ∀ x, x ∈ L → gf_S x) (h : post (ov, gf_l (gf_ev L).1, gf_l (gf_ev L).2, cnt, chn, tb)) : ∀ (i n : Nat), i < n → i ≤ L.length → wX_evaluate_27 post (nI r) ov cnt chn tb n (gf_i ((i : Int) - 1)) (gf_l (gf_ev (L.drop i)).1) (gf_l (gf_ev (L.drop i)).2) := by
  intro i
  induction i with
  | zero =>
    intro n hn hi
    obtain ⟨n, rfl⟩ : ∃ m, n = m + 1 := ⟨n - 1, by omega⟩
    exact br_t (by decide) h
  | succ j ih =>
    intro n hn hi
    obtain ⟨n, rfl⟩ : ∃ m, n = m + 1 := ⟨n - 1, by omega⟩
    have e : gf_i (((j + 1 : Nat) : Int) - 1) = nI j := by
      rw [show ((j + 1 : Nat) : Int) - 1 = (j : Int) by omega, gf_nI]
    have hd := gf_drop_lt (L := L) (i := j) (by omega)
    have ht := hS _ (gf_getD_mem (L := L) (i := j) (by omega))
    rw [e]
    refine br_f (nI_pos (by omega)) (And.intro ?_ (nm_r (e' := gf_l (gf_ev (L.drop j)).1) ?_ (nm_r (gf_pm j) ?_)))
    · rw [gf_ix]
      exact vp_in_nI (by omega) (by omega)
    · rw [gf_cl r j (by omega), hat j (by omega), gf_i_l ht, gf_l_mul, gf_l_add, hd]
      rfl
    · have k := ih n (by omega) (by omega)
      rw [hd] at k
      rw [hd]
      exact k
theorem gf_eval {post : SX → Prop} {ov : Int32} {vt vb : Int64} {cnt chn : Nat → Int32} {tb : Nat → Int64} {r : Nat} (hr : r < 5) {L : List Int} (hn : L ≠ []) (hl : L.length ≤ 24) (hat : gf_at chn (24 * r) L) (hS : ∀ x, x ∈ L → gf_S x) {m : Int32} (hm : m = nI L.length) (h : post (ov, gf_l (gf_ev L).1, gf_l (gf_ev L).2, cnt, chn, tb)) : wpX_evaluate post (ov, vt, vb, cnt, chn, tb) (nI r) m := by
  subst hm
  have h1 : 1 ≤ L.length := by
    cases L with
    | nil => exact absurd rfl hn
    | cons a l => rw [List.length_cons]; omega
  obtain ⟨k, hk⟩ : ∃ k, L.length = k + 1 := ⟨L.length - 1, by omega⟩
  have e : (24 : Int32) * nI r + nI L.length - 1 = nI (24 * r + k) := by
    rw [gf_ix, hk, show 24 * r + (k + 1) = (24 * r + k) + 1 by omega, nI_pred]
  have hd := gf_drop_lt (L := L) (i := k) (by omega)
  have h2 : L.drop (k + 1) = [] := List.drop_eq_nil_iff.mpr (by omega)
  have ht := hS _ (gf_getD_mem (L := L) (i := k) (by omega))
  have hev : gf_ev (L.drop k) = (L.getD k 0, 1) := by
    rw [hd, h2]
    show ((L.getD k 0) * 1 + 0, (1 : Int)) = _
    rw [Int.mul_one, Int.add_zero]
  have e2 : nI L.length - 2 = gf_i ((k : Int) - 1) := by
    have : (2 : Int32) = gf_i 2 := by decide
    rw [this, ← gf_nI, gf_i_sub, hk]
    exact congrArg gf_i (by omega)
  refine And.intro ?_ (nm_r (e' := gf_l (L.getD k 0)) ?_ (nm_r e2 ⟨k + 1, ?_⟩))
  · rw [e]
    exact vp_in_nI (by omega) (by omega)
  · rw [e, nI_clamp (by omega), hat k (by omega), gf_i_l ht]
  · have z := gf_eval27 hr hl hat hS h k (k + 1) (by omega) (by omega)
    rw [hev] at z
    exact z
end
section
/-! the table methods of the component -/
def gf_tab (tb : Nat → Int64) (a b c d e f g h : Int) : Prop := tb 0 = gf_l a ∧ tb 1 = gf_l b ∧ tb 2 = gf_l c ∧ tb 3 = gf_l d ∧ tb 4 = gf_l e ∧ tb 5 = gf_l f ∧ tb 6 = gf_l g ∧ tb 7 = gf_l h
theorem gf_tab_any (tb : Nat → Int64) : ∃ a b c d e f g h : Int, gf_tab tb a b c d e f g h :=
  ⟨_, _, _, _, _, _, _, _, gf_l_of _, gf_l_of _, gf_l_of _, gf_l_of _, gf_l_of _, gf_l_of _, gf_l_of _, gf_l_of _⟩
theorem gf_k2 (k : Nat) : nI k + 2 = nI (k + 2) := nI_add k 2
theorem gf_k3 (k : Nat) : nI k + 3 = nI (k + 3) := nI_add k 3
theorem gf_k4 (k : Nat) : nI k + 4 = nI (k + 4) := nI_add k 4
theorem gf_takeX_s {post : SX → Prop} {t : Int64} {ov : Int32} {vt vb : Int64} {cnt chn : Nat → Int32} {k n : Nat} (hk : k + 3 < 8) {tb : Nat → Int64} (h : ∀ tb' : Nat → Int64, tb' k = tb k * t + tb (k + 2) → tb' (k + 1) = tb (k + 1) * t + tb (k + 3) → tb' (k + 2) = tb k → tb' (k + 3) = tb (k + 1) → (∀ j, j < k ∨ k + 3 < j → tb' j = tb j) → wX_takeX_2 post t ov vt vb n (nI (k + 4)) cnt chn tb') : wX_takeX_2 post t ov vt vb (n + 1) (nI k) cnt chn tb := by
  have h8 : ¬ (8 : Int32) ≤ nI k := nI_ge (b := 8) (by omega) (by omega)
  have i0 : vp_in (nI k) 8 := vp_in_nI (by omega) (by omega)
  have i1 : vp_in (nI (k + 1)) 8 := vp_in_nI (by omega) (by omega)
  have i2 : vp_in (nI (k + 2)) 8 := vp_in_nI (by omega) (by omega)
  have i3 : vp_in (nI (k + 3)) 8 := vp_in_nI (by omega) (by omega)
  simp only [wX_takeX_2, forall_eq, nI_1, gf_k2, gf_k3, gf_k4, nI_clamp (n := k) (by omega), nI_clamp (n := k + 1) (by omega), nI_clamp (n := k + 2) (by omega), nI_clamp (n := k + 3) (by omega)]
  refine br_f h8 ⟨i0, i1, i2, i0, i3, i1, i2, i3, ?_⟩
  refine h _ ?_ ?_ ?_ ?_ ?_
  · simp (disch := omega) only [pk_uLs, pk_uLn]
  · simp (disch := omega) only [pk_uLs, pk_uLn]
  · simp (disch := omega) only [pk_uLs, pk_uLn]
  · simp (disch := omega) only [pk_uLs, pk_uLn]
  · intro j hj
    simp (disch := omega) only [pk_uLs, pk_uLn]
theorem gf_takeX {post : SX → Prop} {ov : Int32} {vt vb : Int64} {cnt chn : Nat → Int32} {tb : Nat → Int64} {a b c d e f g h t : Int} (T : gf_tab tb a b c d e f g h) (K : ∀ tb' : Nat → Int64, gf_tab tb' (a * t + c) (b * t + d) a b (e * t + g) (f * t + h) e f → post (ov, vt, vb, cnt, chn, tb')) : wpX_takeX post (ov, vt, vb, cnt, chn, tb) (gf_l t) := by
  obtain ⟨T0, T1, T2, T3, T4, T5, T6, T7⟩ := T
  refine ⟨3, gf_takeX_s (k := 0) (by omega) fun tb1 p0 p1 p2 p3 p4 => gf_takeX_s (k := 4) (by omega) fun tb2 q0 q1 q2 q3 q4 => br_t (by decide) (K tb2 ?_)⟩
  dsimp only [Nat.zero_add, Nat.reduceAdd] at p0 p1 p2 p3 q0 q1 q2 q3
  have r4 := p4 4 (by omega)
  have r5 := p4 5 (by omega)
  have r6 := p4 6 (by omega)
  have r7 := p4 7 (by omega)
  rw [T0, T2, gf_l_mul, gf_l_add] at p0
  rw [T1, T3, gf_l_mul, gf_l_add] at p1
  rw [T0] at p2
  rw [T1] at p3
  rw [r4, r6, T4, T6, gf_l_mul, gf_l_add] at q0
  rw [r5, r7, T5, T7, gf_l_mul, gf_l_add] at q1
  rw [r4, T4] at q2
  rw [r5, T5] at q3
  have s0 := q4 0 (by omega)
  have s1 := q4 1 (by omega)
  have s2 := q4 2 (by omega)
  have s3 := q4 3 (by omega)
  exact ⟨s0.trans p0, s1.trans p1, s2.trans p2, s3.trans p3, q0, q1, q2, q3⟩
theorem gf_takeY_s {post : SX → Prop} {t : Int64} {ov : Int32} {vt vb : Int64} {cnt chn : Nat → Int32} {k n : Nat} (hk : k + 3 < 8) {tb : Nat → Int64} (h : ∀ tb' : Nat → Int64, tb' k = tb k * t + tb (k + 1) → tb' (k + 2) = tb (k + 2) * t + tb (k + 3) → tb' (k + 1) = tb k → tb' (k + 3) = tb (k + 2) → (∀ j, j < k ∨ k + 3 < j → tb' j = tb j) → wX_takeY_2 post t ov vt vb n (nI (k + 4)) cnt chn tb') : wX_takeY_2 post t ov vt vb (n + 1) (nI k) cnt chn tb := by
  have h8 : ¬ (8 : Int32) ≤ nI k := nI_ge (b := 8) (by omega) (by omega)
  have i0 : vp_in (nI k) 8 := vp_in_nI (by omega) (by omega)
  have i1 : vp_in (nI (k + 1)) 8 := vp_in_nI (by omega) (by omega)
  have i2 : vp_in (nI (k + 2)) 8 := vp_in_nI (by omega) (by omega)
  have i3 : vp_in (nI (k + 3)) 8 := vp_in_nI (by omega) (by omega)
  simp only [wX_takeY_2, forall_eq, nI_1, gf_k2, gf_k3, gf_k4, nI_clamp (n := k) (by omega), nI_clamp (n := k + 1) (by omega), nI_clamp (n := k + 2) (by omega), nI_clamp (n := k + 3) (by omega)]
  refine br_f h8 ⟨i0, i2, i1, i0, i3, i2, i1, i3, ?_⟩
  refine h _ ?_ ?_ ?_ ?_ ?_
  · simp (disch := omega) only [pk_uLs, pk_uLn]
  · simp (disch := omega) only [pk_uLs, pk_uLn]
  · simp (disch := omega) only [pk_uLs, pk_uLn]
  · simp (disch := omega) only [pk_uLs, pk_uLn]
  · intro j hj
    simp (disch := omega) only [pk_uLs, pk_uLn]
theorem gf_takeY {post : SX → Prop} {ov : Int32} {vt vb : Int64} {cnt chn : Nat → Int32} {tb : Nat → Int64} {a b c d e f g h t : Int} (T : gf_tab tb a b c d e f g h) (K : ∀ tb' : Nat → Int64, gf_tab tb' (a * t + b) a (c * t + d) c (e * t + f) e (g * t + h) g → post (ov, vt, vb, cnt, chn, tb')) : wpX_takeY post (ov, vt, vb, cnt, chn, tb) (gf_l t) := by
  obtain ⟨T0, T1, T2, T3, T4, T5, T6, T7⟩ := T
  refine ⟨3, gf_takeY_s (k := 0) (by omega) fun tb1 p0 p1 p2 p3 p4 => gf_takeY_s (k := 4) (by omega) fun tb2 q0 q1 q2 q3 q4 => br_t (by decide) (K tb2 ?_)⟩
  dsimp only [Nat.zero_add, Nat.reduceAdd] at p0 p1 p2 p3 q0 q1 q2 q3
  have r4 := p4 4 (by omega)
  have r5 := p4 5 (by omega)
  have r6 := p4 6 (by omega)
  have r7 := p4 7 (by omega)
  rw [T0, T1, gf_l_mul, gf_l_add] at p0
  rw [T2, T3, gf_l_mul, gf_l_add] at p1
  rw [T0] at p2
  rw [T2] at p3
  rw [r4, r5, T4, T5, gf_l_mul, gf_l_add] at q0
  rw [r6, r7, T6, T7, gf_l_mul, gf_l_add] at q1
  rw [r4, T4] at q2
  rw [r6, T6] at q3
  have s0 := q4 0 (by omega)
  have s1 := q4 1 (by omega)
  have s2 := q4 2 (by omega)
  have s3 := q4 3 (by omega)
  exact ⟨s0.trans p0, s1.trans p2, s2.trans p1, s3.trans p3, q0, q2, q1, q3⟩
theorem gf_endX_s {post : SX → Prop} {ov : Int32} {vt vb : Int64} {cnt chn : Nat → Int32} {k n : Nat} (hk : k + 3 < 8) {tb : Nat → Int64} (h : ∀ tb' : Nat → Int64, tb' k = tb k → tb' (k + 1) = tb (k + 1) → tb' (k + 2) = tb k → tb' (k + 3) = tb (k + 1) → (∀ j, j < k ∨ k + 3 < j → tb' j = tb j) → wX_endX_2 post ov vt vb n (nI (k + 4)) cnt chn tb') : wX_endX_2 post ov vt vb (n + 1) (nI k) cnt chn tb := by
  have h8 : ¬ (8 : Int32) ≤ nI k := nI_ge (b := 8) (by omega) (by omega)
  have i0 : vp_in (nI k) 8 := vp_in_nI (by omega) (by omega)
  have i1 : vp_in (nI (k + 1)) 8 := vp_in_nI (by omega) (by omega)
  have i2 : vp_in (nI (k + 2)) 8 := vp_in_nI (by omega) (by omega)
  have i3 : vp_in (nI (k + 3)) 8 := vp_in_nI (by omega) (by omega)
  simp only [wX_endX_2, forall_eq, nI_1, gf_k2, gf_k3, gf_k4, nI_clamp (n := k) (by omega), nI_clamp (n := k + 1) (by omega), nI_clamp (n := k + 2) (by omega), nI_clamp (n := k + 3) (by omega)]
  refine br_f h8 ⟨i0, i2, i1, i3, ?_⟩
  refine h _ ?_ ?_ ?_ ?_ ?_
  · simp (disch := omega) only [pk_uLs, pk_uLn]
  · simp (disch := omega) only [pk_uLs, pk_uLn]
  · simp (disch := omega) only [pk_uLs, pk_uLn]
  · simp (disch := omega) only [pk_uLs, pk_uLn]
  · intro j hj
    simp (disch := omega) only [pk_uLs, pk_uLn]
theorem gf_endX {post : SX → Prop} {ov : Int32} {vt vb : Int64} {cnt chn : Nat → Int32} {tb : Nat → Int64} {a b c d e f g h : Int} (T : gf_tab tb a b c d e f g h) (K : ∀ tb' : Nat → Int64, gf_tab tb' a b a b e f e f → post (ov, vt, vb, cnt, chn, tb')) : wpX_endX post (ov, vt, vb, cnt, chn, tb) := by
  obtain ⟨T0, T1, T2, T3, T4, T5, T6, T7⟩ := T
  refine ⟨3, gf_endX_s (k := 0) (by omega) fun tb1 p0 p1 p2 p3 p4 => gf_endX_s (k := 4) (by omega) fun tb2 q0 q1 q2 q3 q4 => br_t (by decide) (K tb2 ?_)⟩
  dsimp only [Nat.zero_add, Nat.reduceAdd] at p0 p1 p2 p3 q0 q1 q2 q3
  have r4 := p4 4 (by omega)
  have r5 := p4 5 (by omega)
  have r6 := p4 6 (by omega)
  have r7 := p4 7 (by omega)
  rw [T0] at p0 p2
  rw [T1] at p1 p3
  rw [r4, T4] at q0 q2
  rw [r5, T5] at q1 q3
  have s0 := q4 0 (by omega)
  have s1 := q4 1 (by omega)
  have s2 := q4 2 (by omega)
  have s3 := q4 3 (by omega)
  exact ⟨s0.trans p0, s1.trans p1, s2.trans p2, s3.trans p3, q0, q1, q2, q3⟩
theorem gf_endY_s {post : SX → Prop} {ov : Int32} {vt vb : Int64} {cnt chn : Nat → Int32} {k n : Nat} (hk : k + 3 < 8) {tb : Nat → Int64} (h : ∀ tb' : Nat → Int64, tb' k = tb k → tb' (k + 2) = tb (k + 2) → tb' (k + 1) = tb k → tb' (k + 3) = tb (k + 2) → (∀ j, j < k ∨ k + 3 < j → tb' j = tb j) → wX_endY_2 post ov vt vb n (nI (k + 4)) cnt chn tb') : wX_endY_2 post ov vt vb (n + 1) (nI k) cnt chn tb := by
  have h8 : ¬ (8 : Int32) ≤ nI k := nI_ge (b := 8) (by omega) (by omega)
  have i0 : vp_in (nI k) 8 := vp_in_nI (by omega) (by omega)
  have i1 : vp_in (nI (k + 1)) 8 := vp_in_nI (by omega) (by omega)
  have i2 : vp_in (nI (k + 2)) 8 := vp_in_nI (by omega) (by omega)
  have i3 : vp_in (nI (k + 3)) 8 := vp_in_nI (by omega) (by omega)
  simp only [wX_endY_2, forall_eq, nI_1, gf_k2, gf_k3, gf_k4, nI_clamp (n := k) (by omega), nI_clamp (n := k + 1) (by omega), nI_clamp (n := k + 2) (by omega), nI_clamp (n := k + 3) (by omega)]
  refine br_f h8 ⟨i0, i1, i2, i3, ?_⟩
  refine h _ ?_ ?_ ?_ ?_ ?_
  · simp (disch := omega) only [pk_uLs, pk_uLn]
  · simp (disch := omega) only [pk_uLs, pk_uLn]
  · simp (disch := omega) only [pk_uLs, pk_uLn]
  · simp (disch := omega) only [pk_uLs, pk_uLn]
  · intro j hj
    simp (disch := omega) only [pk_uLs, pk_uLn]
theorem gf_endY {post : SX → Prop} {ov : Int32} {vt vb : Int64} {cnt chn : Nat → Int32} {tb : Nat → Int64} {a b c d e f g h : Int} (T : gf_tab tb a b c d e f g h) (K : ∀ tb' : Nat → Int64, gf_tab tb' a a c c e e g g → post (ov, vt, vb, cnt, chn, tb')) : wpX_endY post (ov, vt, vb, cnt, chn, tb) := by
  obtain ⟨T0, T1, T2, T3, T4, T5, T6, T7⟩ := T
  refine ⟨3, gf_endY_s (k := 0) (by omega) fun tb1 p0 p1 p2 p3 p4 => gf_endY_s (k := 4) (by omega) fun tb2 q0 q1 q2 q3 q4 => br_t (by decide) (K tb2 ?_)⟩
  dsimp only [Nat.zero_add, Nat.reduceAdd] at p0 p1 p2 p3 q0 q1 q2 q3
  have r4 := p4 4 (by omega)
  have r5 := p4 5 (by omega)
  have r6 := p4 6 (by omega)
  have r7 := p4 7 (by omega)
  rw [T0] at p0 p2
  rw [T2] at p1 p3
  rw [r4, T4] at q0 q2
  rw [r6, T6] at q1 q3
  have s0 := q4 0 (by omega)
  have s1 := q4 1 (by omega)
  have s2 := q4 2 (by omega)
  have s3 := q4 3 (by omega)
  exact ⟨s0.trans p0, s1.trans p2, s2.trans p1, s3.trans p3, q0, q2, q1, q3⟩
theorem gf_giveOut_s {post : SX → Prop} {w : Int64} {ov : Int32} {vt vb : Int64} {cnt chn : Nat → Int32} {k n : Nat} (hk : k < 4) {tb : Nat → Int64} (h : ∀ tb' : Nat → Int64, tb' k = tb (k + 4) → tb' (k + 4) = tb k - w * tb (k + 4) → (∀ j, j ≠ k → j ≠ k + 4 → tb' j = tb j) → wX_giveOut_24 post w ov vt vb n (nI (k + 1)) cnt chn tb') : wX_giveOut_24 post w ov vt vb (n + 1) (nI k) cnt chn tb := by
  have h8 : ¬ (4 : Int32) ≤ nI k := nI_ge (b := 4) (by omega) (by omega)
  have i0 : vp_in (nI k) 8 := vp_in_nI (by omega) (by omega)
  have i4 : vp_in (nI (k + 4)) 8 := vp_in_nI (by omega) (by omega)
  simp only [wX_giveOut_24, forall_eq, nI_1, gf_k4, nI_clamp (n := k) (by omega), nI_clamp (n := k + 4) (by omega)]
  refine br_f h8 ⟨i0, i4, i4, i0, i4, ?_⟩
  refine h _ ?_ ?_ ?_
  · simp (disch := omega) only [pk_uLs, pk_uLn]
  · simp (disch := omega) only [pk_uLs, pk_uLn]
  · intro j hj hj2
    simp (disch := omega) only [pk_uLs, pk_uLn]
theorem gf_giveOut24 {post : SX → Prop} {ov : Int32} {vt vb : Int64} {cnt chn : Nat → Int32} {tb : Nat → Int64} {a b c d e f g h w : Int} (T : gf_tab tb a b c d e f g h) (K : ∀ tb' : Nat → Int64, gf_tab tb' e f g h (a - w * e) (b - w * f) (c - w * g) (d - w * h) → post (ov, vt, vb, cnt, chn, tb')) : wX_giveOut_24 post (gf_l w) ov vt vb 5 0 cnt chn tb := by
  obtain ⟨T0, T1, T2, T3, T4, T5, T6, T7⟩ := T
  refine gf_giveOut_s (k := 0) (by omega) fun tb1 p0 p1 p2 => gf_giveOut_s (k := 1) (by omega) fun tb2 q0 q1 q2 => gf_giveOut_s (k := 2) (by omega) fun tb3 r0 r1 r2 => gf_giveOut_s (k := 3) (by omega) fun tb4 s0 s1 s2 => br_t (by decide) (K tb4 ?_)
  dsimp only [Nat.zero_add, Nat.reduceAdd] at p0 p1 q0 q1 r0 r1 s0 s1
  rw [T4] at p0
  rw [T0, T4, gf_l_mul, gf_l_sub] at p1
  rw [p2 5 (by omega) (by omega), T5] at q0
  rw [p2 5 (by omega) (by omega), p2 1 (by omega) (by omega), T1, T5, gf_l_mul, gf_l_sub] at q1
  rw [q2 6 (by omega) (by omega), p2 6 (by omega) (by omega), T6] at r0
  rw [q2 6 (by omega) (by omega), q2 2 (by omega) (by omega), p2 6 (by omega) (by omega), p2 2 (by omega) (by omega), T2, T6, gf_l_mul, gf_l_sub] at r1
  rw [r2 7 (by omega) (by omega), q2 7 (by omega) (by omega), p2 7 (by omega) (by omega), T7] at s0
  rw [r2 7 (by omega) (by omega), r2 3 (by omega) (by omega), q2 7 (by omega) (by omega), q2 3 (by omega) (by omega), p2 7 (by omega) (by omega), p2 3 (by omega) (by omega), T3, T7, gf_l_mul, gf_l_sub] at s1
  refine ⟨?_, ?_, ?_, s0, ?_, ?_, ?_, s1⟩
  · rw [s2 0 (by omega) (by omega), r2 0 (by omega) (by omega), q2 0 (by omega) (by omega), p0]
  · rw [s2 1 (by omega) (by omega), r2 1 (by omega) (by omega), q0]
  · rw [s2 2 (by omega) (by omega), r0]
  · rw [s2 4 (by omega) (by omega), r2 4 (by omega) (by omega), q2 4 (by omega) (by omega), p1]
  · rw [s2 5 (by omega) (by omega), r2 5 (by omega) (by omega), q1]
  · rw [s2 6 (by omega) (by omega), r1]
end
section
/-! append, meltLastOne, copyChain, sure, giveOut -/
theorem gf_i8 : ∀ k : Nat, k < 128 → (nI k).toInt8.toInt32 = nI k := by decide +kernel
theorem gf_by {k : Nat} (h : k < 128) : vp_nar .byte (nI k).toInt8.toInt32 = nI k := by rw [pk_vb, gf_i8 k h]
theorem gf_b0 : vp_nar .byte 0 = nI 0 := gf_by (k := 0) (by omega)
theorem gf_b1 : vp_nar .byte 1 = nI 1 := gf_by (k := 1) (by omega)
theorem gf_96 (k : Nat) : (96 : Int32) + nI k = nI (96 + k) := nI_add 96 k
theorem gf_B9 : gf_B 9999 := ⟨by omega, by omega⟩
theorem gf_Bm9 : gf_B (-9999) := ⟨by omega, by omega⟩
theorem gf_append {post : SX → Prop} {ov : Int32} {vt vb : Int64} {cnt chn : Nat → Int32} {tb : Nat → Int64} {t : Int} (ht : gf_B t) {k : Nat} (hk : cnt 4 = nI k) (h22 : k ≤ 22) (hO : (¬ (-9999 ≤ t ∧ t ≤ 9999) ∨ k = 22) → post (1, vt, vb, cnt, chn, tb)) (hA : -9999 ≤ t → t ≤ 9999 → k < 22 → post (ov, vt, vb, upd cnt 4 (nI (k + 1)), upd chn (96 + k) (gf_i t), tb)) : wpX_append post (ov, vt, vb, cnt, chn, tb) (gf_l t) := by
  have e1 : (9999 : Int64) < gf_l t ↔ 9999 < t := by rw [gf_l9]; exact gf_l_lt gf_B9 ht
  have e2 : gf_l t < (-9999 : Int64) ↔ t < -9999 := by rw [gf_lm9]; exact gf_l_lt ht gf_Bm9
  refine ek_if e1 (fun z => hO (Or.inl (by omega))) fun z1 => ek_if e2 (fun z => hO (Or.inl (by omega))) fun z2 => ?_
  rw [hk]
  refine pk_lt k 22 (fun z => And.intro ?_ (nm_r ?_ (nm_r ?_ (hA (by omega) (by omega) z)))) fun z => hO (Or.inr (by omega))
  · rw [gf_96]
    exact vp_in_nI (by omega) (by omega)
  · rw [gf_96, nI_clamp (by omega), gf_l_i]
  · rw [nI_1, gf_by (by omega)]
theorem gf_melt {post : SX → Prop} {ov : Int32} {vt vb : Int64} {cnt chn : Nat → Int32} {tb : Nat → Int64} {k : Nat} (hk : cnt 4 = nI k) (h22 : k ≤ 22) (h0 : (k < 2 ∨ ¬ chn (96 + (k - 1)) = 1) → post (ov, vt, vb, cnt, chn, tb)) (h1 : 2 ≤ k → chn (96 + (k - 1)) = 1 → post (ov, vt, vb, upd cnt 4 (nI (k - 1)), upd chn (96 + (k - 2)) (chn (96 + (k - 2)) + 1), tb)) : wpX_meltLastOne post (ov, vt, vb, cnt, chn, tb) := by
  have e0 : (96 : Int32) + cnt 4 - 1 = nI (95 + k) := by rw [hk, gf_96, show 96 + k = (95 + k) + 1 by omega, nI_pred]
  refine nm_r e0 ?_
  rw [hk]
  refine pk_lt k 2 (fun z => h0 (Or.inl z)) fun z => And.intro (vp_in_nI (by omega) (by omega)) ?_
  obtain ⟨j, rfl⟩ : ∃ j, k = j + 2 := ⟨k - 2, by omega⟩
  have e1 : nI (95 + (j + 2)) - 1 = nI (96 + j) := by rw [show 95 + (j + 2) = (96 + j) + 1 by omega, nI_pred]
  have e2 : nI (j + 2) - 1 = nI (j + 1) := nI_pred (j + 1)
  rw [nI_clamp (by omega), e1, nI_clamp (by omega), e2, show 95 + (j + 2) = 96 + (j + 2 - 1) by omega]
  refine br_c (fun c => nm_r (congrArg (upd cnt 4) (gf_by (k := j + 1) (by omega))) (And.intro (vp_in_nI (by omega) (by omega)) (And.intro (vp_in_nI (by omega) (by omega)) (nm_e (h1 (by omega) c))))) fun c => h0 (Or.inr c)
theorem gf_copy3 {post : SX → Prop} {ov : Int32} {vt vb : Int64} {cnt chn : Nat → Int32} {tb : Nat → Int64} {to fr m : Nat} (hto : to < 5) (hfr : fr < 5) (hm : m ≤ 24) (hne : to ≠ fr) (K : ∀ chn' : Nat → Int32, (∀ i, i < m → chn' (24 * to + i) = chn (24 * fr + i)) → (∀ x, (x < 24 * to ∨ 24 * to + 24 ≤ x) → chn' x = chn x) → post (ov, vt, vb, upd cnt to (nI m), chn', tb)) : ∀ (d j n : Nat) (ch : Nat → Int32), j + d = m → d < n → (∀ i, i < j → ch (24 * to + i) = chn (24 * fr + i)) → (∀ x, (x < 24 * to ∨ 24 * to + 24 ≤ x) → ch x = chn x) → wX_copyChain_3 post (nI to) (nI fr) (nI m) ov vt vb n (nI j) cnt ch tb := by
  intro d
  induction d with
  | zero =>
    intro j n ch hj hn h1 h2
    obtain ⟨n, rfl⟩ : ∃ k, n = k + 1 := ⟨n - 1, by omega⟩
    have : j = m := by omega
    subst this
    refine br_t (nI_le (Nat.le_refl _) (by omega)) (And.intro (vp_in_nI hto (by omega)) (nm_r ?_ (K ch h1 h2)))
    rw [nI_clamp (by omega), gf_by (by omega)]
  | succ d ih =>
    intro j n ch hj hn h1 h2
    obtain ⟨n, rfl⟩ : ∃ k, n = k + 1 := ⟨n - 1, by omega⟩
    refine br_f (nI_ge (by omega) (by omega)) (And.intro ?_ (And.intro ?_ (nm_r (e' := upd ch (24 * to + j) (chn (24 * fr + j))) ?_ (nm_r (nI_1 j) (ih (j + 1) n _ (by omega) (by omega) ?_ ?_)))))
    · rw [gf_ix]
      exact vp_in_nI (by omega) (by omega)
    · rw [gf_ix]
      exact vp_in_nI (by omega) (by omega)
    · rw [gf_cl to j (by omega), gf_cl fr j (by omega), h2 (24 * fr + j) (by omega)]
    · intro i hi
      by_cases c : i = j
      · subst c
        exact pk_us
      · rw [pk_un (by omega)]
        exact h1 i (by omega)
    · intro x hx
      rw [pk_un (by omega)]
      exact h2 x hx
theorem gf_copy {post : SX → Prop} {ov : Int32} {vt vb : Int64} {cnt chn : Nat → Int32} {tb : Nat → Int64} {to fr m : Nat} (hto : to < 5) (hfr : fr < 5) (hm : m ≤ 24) (hne : to ≠ fr) {c : Int32} (hc : c = nI m) (K : ∀ chn' : Nat → Int32, (∀ i, i < m → chn' (24 * to + i) = chn (24 * fr + i)) → (∀ x, (x < 24 * to ∨ 24 * to + 24 ≤ x) → chn' x = chn x) → post (ov, vt, vb, upd cnt to (nI m), chn', tb)) : wpX_copyChain post (ov, vt, vb, cnt, chn, tb) (nI to) (nI fr) c := by
  subst hc
  exact ⟨m + 1, gf_copy3 hto hfr hm hne K m 0 (m + 1) chn (by omega) (by omega) (fun i hi => absurd hi (Nat.not_lt_zero i)) (fun _ _ => rfl)⟩
/-! sure -/
def gf_cor (w s n d : Int) : Prop := 0 < s * d ∧ w * (s * d) ≤ s * n ∧ s * n < w * (s * d) + s * d
theorem gf_cor_p {w n d : Int} (hd : 0 < d) (hw : n.fdiv d = w) : gf_cor w 1 n d := by
  have := gf_fd_p n hd
  subst hw
  unfold gf_cor
  rw [Int.one_mul, Int.one_mul]
  exact ⟨hd, this.1, this.2⟩
theorem gf_cor_n {w n d : Int} (hd : d < 0) (hw : n.fdiv d = w) : gf_cor w (-1) n d := by
  have := gf_fd_n n hd
  subst hw
  unfold gf_cor
  rw [Int.neg_mul, Int.neg_mul, Int.one_mul, Int.one_mul, Int.mul_neg]
  exact ⟨by omega, by omega, by omega⟩
theorem gf_cor_fd {w s n d : Int} (hs : s = 1 ∨ s = -1) (h : gf_cor w s n d) : d ≠ 0 ∧ n.fdiv d = w := by
  obtain ⟨h1, h2, h3⟩ := h
  rcases hs with rfl | rfl
  · rw [Int.one_mul] at h1 h2 h3
    rw [Int.one_mul] at h2 h3
    exact ⟨by omega, gf_fd_pos h1 h2 h3⟩
  · rw [Int.neg_mul, Int.one_mul] at h1 h2 h3
    rw [Int.neg_mul, Int.one_mul, Int.mul_neg] at h2 h3
    exact ⟨by omega, gf_fd_neg (by omega) (by omega) (by omega)⟩
def gf_sure (a b c d e f g h w s : Int) : Prop := (s = 1 ∨ s = -1) ∧ gf_cor w s a e ∧ gf_cor w s (a + b) (e + f) ∧ gf_cor w s (a + c) (e + g) ∧ gf_cor w s (a + b + c + d) (e + f + g + h)
def gf_bd (a b c d e f g h : Int) : Prop := gf_B a ∧ gf_B e ∧ gf_B (a + b) ∧ gf_B (e + f) ∧ gf_B (a + c) ∧ gf_B (e + g) ∧ gf_B (a + b + c + d) ∧ gf_B (e + f + g + h)
theorem gf_fB {a b : Int} (ha : gf_B a) (hb : b ≠ 0) : gf_B (a.fdiv b) := by
  obtain ⟨h1, h2⟩ := ha
  by_cases c : 0 < b
  · have := gf_fdr (p := a) (q := b) (M := 9223372036854775807) c (by omega) (by omega)
    exact ⟨by omega, by omega⟩
  · have := gf_fdr (p := -a) (q := -b) (M := 9223372036854775807) (by omega) (by omega) (by omega)
    rw [Int.neg_fdiv_neg] at this
    exact ⟨by omega, by omega⟩
theorem gf_sure148 {post J : Int32 → Prop} {e w n d : Int} {x5 : Int32} {ov : Int32} {vt vb : Int64} {cnt chn : Nat → Int32} {tb : Nat → Int64} (he : gf_B e) (hw : gf_B w) (hn : gf_B n) (hd : gf_B d) (h0 : post 0) (hJ : d ≠ 0 → (0 ≤ d ↔ 0 ≤ e) → n.fdiv d = w → J (x5 + 1)) : wX_sure_148 post J (gf_l e) (gf_l w) x5 (gf_l n) (gf_l d) ov vt vb cnt chn tb := by
  refine ek_if (gf_eq0 hd) (fun _ => h0) fun d0 => ?_
  have last : (0 ≤ d ↔ 0 ≤ e) → wpX_floored (fun r_20 => ((r_20 = gf_l w → (∀ x5_28 : Int32, x5_28 = x5 + 1 → (J x5_28))) ∧ (¬ r_20 = gf_l w → (post 0)))) (ov, vt, vb, cnt, chn, tb) (gf_l n) (gf_l d) := fun q =>
    gf_floored hn hd d0 (ek_if (gf_l_eq (gf_fB hn d0) hw) (fun z => nm_e (hJ d0 q z)) (fun _ => h0))
  refine ek_if (gf_le0 hd) (fun d1 => ek_if (gf_le0 he) (fun e1 => br_t rfl (last ⟨fun _ => e1, fun _ => d1⟩)) fun e1 => br_f gf_ne01 h0) fun d1 => ek_if (gf_le0 he) (fun e1 => br_f gf_ne10 h0) fun e1 => br_t rfl (last ⟨fun z => absurd z d1, fun z => absurd z e1⟩)
theorem gf_sureX {post : Int32 → Prop} {ov : Int32} {vt vb : Int64} {cnt chn : Nat → Int32} {tb : Nat → Int64} {a b c d e f g h : Int} (T : gf_tab tb a b c d e f g h) (Bd : gf_bd a b c d e f g h) {k : Nat} (hk : cnt 4 = nI k) (h22 : k ≤ 22) (h0 : post 0) (h1 : ∀ w s, k < 22 → gf_sure a b c d e f g h w s → post 1) : wpX_sure post (ov, vt, vb, cnt, chn, tb) := by
  obtain ⟨T0, T1, T2, T3, T4, T5, T6, T7⟩ := T
  obtain ⟨B0, B1, B2, B3, B4, B5, B6, B7⟩ := Bd
  unfold wpX_sure
  dsimp only
  rw [hk, T0, T4]
  refine pk_lt k 22 (fun z22 => nm_e (ek_if (gf_eq0 B1) (fun _ => h0) fun e0 => gf_floored B0 B1 e0 ⟨4, ?_⟩)) (fun _ => h0)
  have hw : gf_B (a.fdiv e) := gf_fB B0 e0
  have q1 : gf_l a + tb 1 = gf_l (a + b) := by rw [T1, gf_l_add]
  have q2 : gf_l e + tb 5 = gf_l (e + f) := by rw [T5, gf_l_add]
  have q3 : gf_l a + tb 2 = gf_l (a + c) := by rw [T2, gf_l_add]
  have q4 : gf_l e + tb 6 = gf_l (e + g) := by rw [T6, gf_l_add]
  have q5 : gf_l (a + b) + tb 2 = gf_l (a + b + c) := by rw [T2, gf_l_add]
  have q6 : gf_l (e + f) + tb 6 = gf_l (e + f + g) := by rw [T6, gf_l_add]
  have q7 : gf_l (a + b + c) + tb 3 = gf_l (a + b + c + d) := by rw [T3, gf_l_add]
  have q8 : gf_l (e + f + g) + tb 7 = gf_l (e + f + g + h) := by rw [T7, gf_l_add]
  refine br_f (by decide) (nm_r T0 (br_f (by decide) (nm_r q1 (nm_r q2 ?_))))
  refine br_t (by decide) (br_f (by decide) (gf_sure148 B1 hw B2 B3 h0 fun d1 s1 f1 => ?_))
  refine br_f (by decide) (nm_r T0 (br_t (by decide) ?_))
  refine br_f (by decide) (nm_r q3 (nm_r q4 (br_f (by decide) (gf_sure148 B1 hw B4 B5 h0 fun d2 s2 f2 => ?_))))
  refine br_f (by decide) (nm_r T0 (br_f (by decide) (nm_r q1 (nm_r q2 ?_))))
  refine br_f (by decide) (nm_r q5 (nm_r q6 (br_t (by decide) ?_)))
  refine nm_r q7 (nm_r q8 (gf_sure148 B1 hw B6 B7 h0 fun d3 s3 f3 => ?_))
  refine br_t (by decide) ?_
  by_cases se : 0 ≤ e
  · exact h1 (a.fdiv e) 1 z22 ⟨Or.inl rfl, gf_cor_p (by omega) rfl, gf_cor_p (by omega) f1, gf_cor_p (by omega) f2, gf_cor_p (by omega) f3⟩
  · exact h1 (a.fdiv e) (-1) z22 ⟨Or.inr rfl, gf_cor_n (by omega) rfl, gf_cor_n (by omega) f1, gf_cor_n (by omega) f2, gf_cor_n (by omega) f3⟩
theorem gf_giveOut {post : SX → Prop} {ov : Int32} {vt vb : Int64} {cnt chn : Nat → Int32} {tb : Nat → Int64} {a b c d e f g h w : Int} (T : gf_tab tb a b c d e f g h) (ha : gf_B a) (he : gf_B e) (e0 : e ≠ 0) (hw : a.fdiv e = w) {k : Nat} (hk : cnt 4 = nI k) (h22 : k ≤ 22)
  (hO : ∀ tb' : Nat → Int64, (¬ (-9999 ≤ w ∧ w ≤ 9999) ∨ k = 22) → post (1, vt, vb, cnt, chn, tb'))
  (hA : ∀ tb' : Nat → Int64, -9999 ≤ w → w ≤ 9999 → k < 22 → gf_tab tb' e f g h (a - w * e) (b - w * f) (c - w * g) (d - w * h) → post (ov, vt, vb, upd cnt 4 (nI (k + 1)), upd chn (96 + k) (gf_i w), tb')) : wpX_giveOut post (ov, vt, vb, cnt, chn, tb) := by
  have T' := T
  obtain ⟨T0, T1, T2, T3, T4, T5, T6, T7⟩ := T'
  unfold wpX_giveOut
  dsimp only
  rw [T0, T4]
  refine gf_floored ha he e0 ?_
  rw [hw]
  exact gf_append (by rw [← hw]; exact gf_fB ha e0) hk h22 (fun z => ⟨5, gf_giveOut24 T fun tb' _ => hO tb' z⟩) (fun z1 z2 z3 => ⟨5, gf_giveOut24 T fun tb' T' => hA tb' z1 z2 z3 T'⟩)
end
section
/-! the pure law of the run: forms, sides, cones -/
def gf_F (n1 n2 n3 n4 p q u v : Int) : Int := n1 * (p * u) + n2 * (p * v) + n3 * (q * u) + n4 * (q * v)
theorem gf_F_tx (n1 n2 n3 n4 p p' q q' u v t : Int) : gf_F n1 n2 n3 n4 (t * p + p') (t * q + q') u v = t * gf_F n1 n2 n3 n4 p q u v + gf_F n1 n2 n3 n4 p' q' u v := by
  unfold gf_F
  grind
theorem gf_F_ty (n1 n2 n3 n4 p q u u' v v' t : Int) : gf_F n1 n2 n3 n4 p q (t * u + u') (t * v + v') = t * gf_F n1 n2 n3 n4 p q u v + gf_F n1 n2 n3 n4 p q u' v' := by
  unfold gf_F
  grind
theorem gf_F_ax (n1 n2 n3 n4 p p' q q' u v : Int) : gf_F n1 n2 n3 n4 (p + p') (q + q') u v = gf_F n1 n2 n3 n4 p q u v + gf_F n1 n2 n3 n4 p' q' u v := by
  unfold gf_F
  grind
theorem gf_F_ay (n1 n2 n3 n4 p q u u' v v' : Int) : gf_F n1 n2 n3 n4 p q (u + u') (v + v') = gf_F n1 n2 n3 n4 p q u v + gf_F n1 n2 n3 n4 p q u' v' := by
  unfold gf_F
  grind
theorem gf_F_vx (a b c d xs xt ys yt t : Int) : gf_F (a * t + c) (b * t + d) a b xt (xs - t * xt) ys yt = gf_F a b c d xs xt ys yt := by
  unfold gf_F
  grind
theorem gf_F_vy (a b c d xs xt ys yt t : Int) : gf_F (a * t + b) a (c * t + d) c xs xt yt (ys - t * yt) = gf_F a b c d xs xt ys yt := by
  unfold gf_F
  grind
theorem gf_F_out (a b c d e f g h w xs xt ys yt : Int) : gf_F (a - w * e) (b - w * f) (c - w * g) (d - w * h) xs xt ys yt = gf_F a b c d xs xt ys yt - w * gf_F e f g h xs xt ys yt := by
  unfold gf_F
  grind
theorem gf_F_wt (a b c d xs xt ys yt : Int) : gf_F a b c d xs xt ys yt = (xt * yt) * (a + b + c + d) + ((xt * (ys - yt)) * (a + c) + (((xs - xt) * yt) * (a + b) + (((xs - xt) * (ys - yt) - 1) * a + a))) := by
  unfold gf_F
  grind
theorem gf_F_ex (a b c d xs ys yt : Int) : gf_F a b a b xs 0 ys yt = gf_F a b c d xs 0 ys yt := by
  unfold gf_F
  grind
theorem gf_F_ey (a b c d xs xt ys : Int) : gf_F a a c c xs xt ys 0 = gf_F a b c d xs xt ys 0 := by
  unfold gf_F
  grind
theorem gf_F_ee (a b c d xs ys : Int) : gf_F a b c d xs 0 ys 0 = (xs * ys) * a := by
  unfold gf_F
  grind
/-! bounds -/
theorem gf_mb {x y A B : Int} (h1 : -A ≤ x) (h2 : x ≤ A) (h3 : -B ≤ y) (h4 : y ≤ B) : -(A * B) ≤ x * y ∧ x * y ≤ A * B := by
  have e : (x * y).natAbs = x.natAbs * y.natAbs := Int.natAbs_mul x y
  have l : x.natAbs * y.natAbs ≤ A.natAbs * B.natAbs := Nat.mul_le_mul (by omega) (by omega)
  have m : (A * B).natAbs = A.natAbs * B.natAbs := Int.natAbs_mul A B
  have p : 0 ≤ A * B := Int.mul_nonneg (by omega) (by omega)
  omega
def gf_cb (n1 n2 n3 n4 : Int) : Prop := -99 ≤ n1 ∧ n1 ≤ 99 ∧ -99 ≤ n2 ∧ n2 ≤ 99 ∧ -99 ≤ n3 ∧ n3 ≤ 99 ∧ -99 ≤ n4 ∧ n4 ≤ 99
def gf_M (n : Int) : Prop := -4000000000000000000 ≤ n ∧ n ≤ 4000000000000000000
theorem gf_M_B {n : Int} (h : gf_M n) : gf_B n := by
  obtain ⟨h1, h2⟩ := h
  exact ⟨by omega, by omega⟩
def gf_pq (p q : Int) : Prop := -200000000 ≤ p ∧ p ≤ 200000000 ∧ -20000 ≤ q ∧ q ≤ 20000
theorem gf_F_b {n1 n2 n3 n4 p q u v : Int} (hn : gf_cb n1 n2 n3 n4) (h1 : gf_pq p q) (h2 : gf_pq u v) : gf_M (gf_F n1 n2 n3 n4 p q u v) := by
  obtain ⟨a1, a2, a3, a4, a5, a6, a7, a8⟩ := hn
  obtain ⟨b1, b2, b3, b4⟩ := h1
  obtain ⟨c1, c2, c3, c4⟩ := h2
  have e1 := gf_mb b1 b2 c1 c2
  have e2 := gf_mb b1 b2 c3 c4
  have e3 := gf_mb b3 b4 c1 c2
  have e4 := gf_mb b3 b4 c3 c4
  have f1 := gf_mb a1 a2 e1.1 e1.2
  have f2 := gf_mb a3 a4 e2.1 e2.2
  have f3 := gf_mb a5 a6 e3.1 e3.2
  have f4 := gf_mb a7 a8 e4.1 e4.2
  unfold gf_M gf_F
  generalize n1 * (p * u) = x1 at *
  generalize n2 * (p * v) = x2 at *
  generalize n3 * (q * u) = x3 at *
  generalize n4 * (q * v) = x4 at *
  clear e1 e2 e3 e4
  exact ⟨by omega, by omega⟩
/-! one side: what is left of an operand (xs, xt), and the columns (p, q), (p', q') of what was taken -/
def gf_sd1 (p p' q q' xs xt : Int) : Prop := 0 ≤ xt ∧ xt < xs ∧ 1 ≤ q ∧ 0 ≤ q' ∧ q' ≤ q ∧ -(10000 * q) ≤ p ∧ p ≤ 10000 * q ∧ -(10000 * (q + q')) ≤ p + p' ∧ p + p' ≤ 10000 * (q + q')
def gf_sd0 (p p' q q' xs xt : Int) : Prop := p = 1 ∧ p' = 0 ∧ q = 0 ∧ q' = 1 ∧ 0 < xt ∧ -9999 ≤ xs ∧ xs ≤ 9999
def gf_sd (L : List Int) (Q : Int) (i : Nat) (p p' q q' xs xt : Int) : Prop := L.drop i = gf_cf xs xt ∧ q * xs + q' * xt = Q ∧ ((i = 0 ∧ gf_sd0 p p' q q' xs xt) ∨ (1 ≤ i ∧ gf_sd1 p p' q q' xs xt))
theorem gf_sd_take {L : List Int} {Q : Int} {i : Nat} {p p' q q' xs xt : Int} (h : gf_sd L Q i p p' q q' xs xt) (hi : i < L.length) : ∃ t, L.getD i 0 = t ∧ (1 ≤ i → 1 ≤ t) ∧ gf_sd L Q (i + 1) (t * p + p') p (t * q + q') q xt (xs - t * xt) := by
  obtain ⟨h1, h2, h3⟩ := h
  have xt0 : xt ≠ 0 := by
    intro c
    subst c
    rw [gf_cf_0] at h1
    have := List.drop_eq_nil_iff.mp h1
    omega
  rw [gf_cf_s xt0] at h1
  obtain ⟨k1, k2, k3⟩ := gf_drop_cons _ _ _ _ h1
  have xtp : 0 < xt := by
    rcases h3 with h3 | h3
    · exact h3.2.2.2.2.2.1
    · have := h3.2.1
      omega
  have f := gf_fd_p xs xtp
  refine ⟨xs.fdiv xt, k2, ?_, k3, ?_, Or.inr ⟨by omega, ?_⟩⟩
  · intro i1
    rcases h3 with h3 | h3
    · have := h3.1
      omega
    · exact gf_w1 xtp h3.2.2.1 f.2
  · generalize xs.fdiv xt = t
    grind
  · rcases h3 with ⟨h3, s1, s2, s3, s4, s5, s6, s7⟩ | ⟨h3, s1, s2, s3, s4, s5, s6, s7, s8, s9⟩
    · subst s1 s2 s3 s4
      have := gf_fdr (M := 9999) xtp s6 s7
      refine ⟨by omega, by omega, by omega, by omega, by omega, by omega, by omega, by omega, by omega⟩
    · have t1 := gf_w1 xtp s2 f.2
      generalize xs.fdiv xt = t at *
      have m1 : 1 * q ≤ t * q := Int.mul_le_mul_of_nonneg_right t1 (by omega)
      have m2 : (t - 1) * -(10000 * q) ≤ (t - 1) * p := Int.mul_le_mul_of_nonneg_left s6 (by omega)
      have m3 : (t - 1) * p ≤ (t - 1) * (10000 * q) := Int.mul_le_mul_of_nonneg_left s7 (by omega)
      have r1 : (t - 1) * -(10000 * q) = -(10000 * (t * q)) + 10000 * q := by grind
      have r2 : (t - 1) * (10000 * q) = 10000 * (t * q) - 10000 * q := by grind
      have r3 : (t - 1) * p = t * p - p := by grind
      refine ⟨by omega, by omega, by omega, by omega, by omega, by omega, by omega, by omega, by omega⟩
theorem gf_sd_end {L : List Int} {Q : Int} {i : Nat} {p p' q q' xs xt : Int} (h : gf_sd L Q i p p' q q' xs xt) (hi : L.length ≤ i) : xt = 0 ∧ gf_sd L Q (i + 1) p p q q xs xt := by
  obtain ⟨h1, h2, h3⟩ := h
  have d0 : L.drop i = [] := List.drop_eq_nil_iff.mpr hi
  have d1 : L.drop (i + 1) = [] := List.drop_eq_nil_iff.mpr (by omega)
  rw [d0] at h1
  have z := gf_cf_nil h1.symm
  refine ⟨z, by rw [d1]; exact h1, ?_, ?_⟩
  · subst z
    omega
  · rcases h3 with ⟨h3, s1, s2, s3, s4, s5, s6, s7⟩ | ⟨h3, s1, s2, s3, s4, s5, s6, s7, s8, s9⟩
    · omega
    · exact Or.inr ⟨by omega, by omega, by omega, by omega, by omega, by omega, by omega, by omega, by omega, by omega⟩
theorem gf_sd_1 {L : List Int} {Q : Int} {i : Nat} {p p' q q' xs xt : Int} (h : gf_sd L Q i p p' q q' xs xt) (hi : 1 ≤ i) : gf_sd1 p p' q q' xs xt := by
  rcases h.2.2 with h3 | h3
  · have := h3.1
    omega
  · exact h3.2
theorem gf_sd_pq {L : List Int} {Q : Int} {i : Nat} {p p' q q' xs xt : Int} (h : gf_sd L Q i p p' q q' xs xt) (hi : 1 ≤ i) (hQ : Q ≤ 9999) : gf_pq p q ∧ gf_pq (p + p') (q + q') := by
  obtain ⟨s1, s2, s3, s4, s5, s6, s7, s8, s9⟩ := gf_sd_1 h hi
  have e := h.2.1
  have m1 : q * 1 ≤ q * xs := Int.mul_le_mul_of_nonneg_left (by omega) (by omega)
  have m2 : 0 ≤ q' * xt := Int.mul_nonneg s4 s1
  have : q ≤ 9999 := by omega
  clear e m1 m2
  exact ⟨⟨by omega, by omega, by omega, by omega⟩, ⟨by omega, by omega, by omega, by omega⟩⟩
/-! the table -/
def gf_pre (n1 n2 n3 n4 d1 d2 d3 d4 p p' q q' u u' v v' a b c d e f g h : Int) : Prop :=
  a = gf_F n1 n2 n3 n4 p q u v ∧ b = gf_F n1 n2 n3 n4 p q u' v' ∧ c = gf_F n1 n2 n3 n4 p' q' u v ∧ d = gf_F n1 n2 n3 n4 p' q' u' v' ∧
  e = gf_F d1 d2 d3 d4 p q u v ∧ f = gf_F d1 d2 d3 d4 p q u' v' ∧ g = gf_F d1 d2 d3 d4 p' q' u v ∧ h = gf_F d1 d2 d3 d4 p' q' u' v'
def gf_cn (s n d : Int) : Prop := 0 ≤ s * d ∧ s * d < s * n
def gf_cns (s a b c d e f g h : Int) : Prop := gf_cn s a e ∧ gf_cn s (a + b) (e + f) ∧ gf_cn s (a + c) (e + g) ∧ gf_cn s (a + b + c + d) (e + f + g + h)
def gf_cq (K K' d1 d2 d3 d4 p p' q q' u u' v v' a b c d e f g h : Int) : Prop :=
  K * a + K' * e = gf_F d1 d2 d3 d4 p q u v ∧ K * b + K' * f = gf_F d1 d2 d3 d4 p q u' v' ∧ K * c + K' * g = gf_F d1 d2 d3 d4 p' q' u v ∧ K * d + K' * h = gf_F d1 d2 d3 d4 p' q' u' v'
def gf_cone (d1 d2 d3 d4 p p' q q' u u' v v' a b c d e f g h : Int) : Prop := ∃ s K K' : Int, (s = 1 ∨ s = -1) ∧ 1 ≤ K ∧ 0 ≤ K' ∧ gf_cq K K' d1 d2 d3 d4 p p' q q' u u' v v' a b c d e f g h ∧ gf_cns s a b c d e f g h
theorem gf_cn_lin {s n1 e1 n2 e2 k : Int} (h1 : gf_cn s n1 e1) (h2 : gf_cn s n2 e2) (hk : 0 ≤ k) : gf_cn s (k * n1 + n2) (k * e1 + e2) := by
  obtain ⟨a1, a2⟩ := h1
  obtain ⟨b1, b2⟩ := h2
  have m1 : 0 ≤ k * (s * e1) := Int.mul_nonneg hk a1
  have m2 : k * (s * e1) ≤ k * (s * n1) := Int.mul_le_mul_of_nonneg_left (by omega) hk
  have r1 : s * (k * e1 + e2) = k * (s * e1) + s * e2 := by grind
  have r2 : s * (k * n1 + n2) = k * (s * n1) + s * n2 := by grind
  unfold gf_cn
  rw [r1, r2]
  exact ⟨by omega, by omega⟩
theorem gf_cn_e {s n e n' e' : Int} (h : gf_cn s n e) (h1 : n' = n) (h2 : e' = e) : gf_cn s n' e' := by
  subst h1 h2
  exact h
end
section
/-! the run's invariant under its steps -/
section
variable {n1 n2 n3 n4 d1 d2 d3 d4 p p' q q' u u' v v' a b c d e f g h t : Int}
theorem gf_pre_tx (H : gf_pre n1 n2 n3 n4 d1 d2 d3 d4 p p' q q' u u' v v' a b c d e f g h) : gf_pre n1 n2 n3 n4 d1 d2 d3 d4 (t * p + p') p (t * q + q') q u u' v v' (a * t + c) (b * t + d) a b (e * t + g) (f * t + h) e f := by
  obtain ⟨h1, h2, h3, h4, h5, h6, h7, h8⟩ := H
  refine ⟨?_, ?_, h1, h2, ?_, ?_, h5, h6⟩
  · rw [gf_F_tx, ← h1, ← h3, Int.mul_comm]
  · rw [gf_F_tx, ← h2, ← h4, Int.mul_comm]
  · rw [gf_F_tx, ← h5, ← h7, Int.mul_comm]
  · rw [gf_F_tx, ← h6, ← h8, Int.mul_comm]
theorem gf_pre_ty (H : gf_pre n1 n2 n3 n4 d1 d2 d3 d4 p p' q q' u u' v v' a b c d e f g h) : gf_pre n1 n2 n3 n4 d1 d2 d3 d4 p p' q q' (t * u + u') u (t * v + v') v (a * t + b) a (c * t + d) c (e * t + f) e (g * t + h) g := by
  obtain ⟨h1, h2, h3, h4, h5, h6, h7, h8⟩ := H
  refine ⟨?_, h1, ?_, h3, ?_, h5, ?_, h7⟩
  · rw [gf_F_ty, ← h1, ← h2, Int.mul_comm]
  · rw [gf_F_ty, ← h3, ← h4, Int.mul_comm]
  · rw [gf_F_ty, ← h5, ← h6, Int.mul_comm]
  · rw [gf_F_ty, ← h7, ← h8, Int.mul_comm]
theorem gf_pre_ex (H : gf_pre n1 n2 n3 n4 d1 d2 d3 d4 p p' q q' u u' v v' a b c d e f g h) : gf_pre n1 n2 n3 n4 d1 d2 d3 d4 p p q q u u' v v' a b a b e f e f :=
  ⟨H.1, H.2.1, H.1, H.2.1, H.2.2.2.2.1, H.2.2.2.2.2.1, H.2.2.2.2.1, H.2.2.2.2.2.1⟩
theorem gf_pre_ey (H : gf_pre n1 n2 n3 n4 d1 d2 d3 d4 p p' q q' u u' v v' a b c d e f g h) : gf_pre n1 n2 n3 n4 d1 d2 d3 d4 p p' q q' u u v v a a c c e e g g :=
  ⟨H.1, H.1, H.2.2.1, H.2.2.1, H.2.2.2.2.1, H.2.2.2.2.1, H.2.2.2.2.2.2.1, H.2.2.2.2.2.2.1⟩
theorem gf_cone_tx (ht : 1 ≤ t) (H : gf_cone d1 d2 d3 d4 p p' q q' u u' v v' a b c d e f g h) : gf_cone d1 d2 d3 d4 (t * p + p') p (t * q + q') q u u' v v' (a * t + c) (b * t + d) a b (e * t + g) (f * t + h) e f := by
  obtain ⟨s, K, K', hs, k1, k2, ⟨q1, q2, q3, q4⟩, ⟨c1, c2, c3, c4⟩⟩ := H
  refine ⟨s, K, K', hs, k1, k2, ⟨?_, ?_, q1, q2⟩, ⟨?_, ?_, ?_, ?_⟩⟩
  · rw [gf_F_tx, ← q1, ← q3]
    grind
  · rw [gf_F_tx, ← q2, ← q4]
    grind
  · exact gf_cn_e (gf_cn_lin (k := t - 1) c1 c3 (by omega)) (by grind) (by grind)
  · exact gf_cn_e (gf_cn_lin (k := t - 1) c2 c4 (by omega)) (by grind) (by grind)
  · exact gf_cn_e (gf_cn_lin (k := t) c1 c3 (by omega)) (by grind) (by grind)
  · exact gf_cn_e (gf_cn_lin (k := t) c2 c4 (by omega)) (by grind) (by grind)
theorem gf_cone_ty (ht : 1 ≤ t) (H : gf_cone d1 d2 d3 d4 p p' q q' u u' v v' a b c d e f g h) : gf_cone d1 d2 d3 d4 p p' q q' (t * u + u') u (t * v + v') v (a * t + b) a (c * t + d) c (e * t + f) e (g * t + h) g := by
  obtain ⟨s, K, K', hs, k1, k2, ⟨q1, q2, q3, q4⟩, ⟨c1, c2, c3, c4⟩⟩ := H
  refine ⟨s, K, K', hs, k1, k2, ⟨?_, q1, ?_, q3⟩, ⟨?_, ?_, ?_, ?_⟩⟩
  · rw [gf_F_ty, ← q1, ← q2]
    grind
  · rw [gf_F_ty, ← q3, ← q4]
    grind
  · exact gf_cn_e (gf_cn_lin (k := t - 1) c1 c2 (by omega)) (by grind) (by grind)
  · exact gf_cn_e (gf_cn_lin (k := t) c1 c2 (by omega)) (by grind) (by grind)
  · exact gf_cn_e (gf_cn_lin (k := t - 1) c3 c4 (by omega)) (by grind) (by grind)
  · exact gf_cn_e (gf_cn_lin (k := t) c3 c4 (by omega)) (by grind) (by grind)
theorem gf_cone_ex (H : gf_cone d1 d2 d3 d4 p p' q q' u u' v v' a b c d e f g h) : gf_cone d1 d2 d3 d4 p p q q u u' v v' a b a b e f e f := by
  obtain ⟨s, K, K', hs, k1, k2, ⟨q1, q2, q3, q4⟩, ⟨c1, c2, c3, c4⟩⟩ := H
  refine ⟨s, K, K', hs, k1, k2, ⟨q1, q2, q1, q2⟩, ⟨c1, c2, ?_, ?_⟩⟩
  · exact gf_cn_e (gf_cn_lin (k := 1) c1 c1 (by omega)) (by grind) (by grind)
  · exact gf_cn_e (gf_cn_lin (k := 1) c2 c2 (by omega)) (by grind) (by grind)
theorem gf_cone_ey (H : gf_cone d1 d2 d3 d4 p p' q q' u u' v v' a b c d e f g h) : gf_cone d1 d2 d3 d4 p p' q q' u u v v a a c c e e g g := by
  obtain ⟨s, K, K', hs, k1, k2, ⟨q1, q2, q3, q4⟩, ⟨c1, c2, c3, c4⟩⟩ := H
  refine ⟨s, K, K', hs, k1, k2, ⟨q1, q1, q3, q3⟩, ⟨c1, ?_, c3, ?_⟩⟩
  · exact gf_cn_e (gf_cn_lin (k := 1) c1 c1 (by omega)) (by grind) (by grind)
  · exact gf_cn_e (gf_cn_lin (k := 1) c3 c3 (by omega)) (by grind) (by grind)
theorem gf_cor_cn {w s n m : Int} (h : gf_cor w s n m) : gf_cn s m (n - w * m) := by
  obtain ⟨h1, h2, h3⟩ := h
  have r : s * (n - w * m) = s * n - w * (s * m) := by grind
  unfold gf_cn
  rw [r]
  exact ⟨by omega, by omega⟩
theorem gf_cns_out {w s : Int} (H : gf_sure a b c d e f g h w s) : gf_cns s e f g h (a - w * e) (b - w * f) (c - w * g) (d - w * h) := by
  obtain ⟨_, c1, c2, c3, c4⟩ := H
  exact ⟨gf_cor_cn c1, gf_cn_e (gf_cor_cn c2) rfl (by grind), gf_cn_e (gf_cor_cn c3) rfl (by grind), gf_cn_e (gf_cor_cn c4) rfl (by grind)⟩
theorem gf_pre_out {w s : Int} (S : gf_sure a b c d e f g h w s) (H : gf_pre n1 n2 n3 n4 d1 d2 d3 d4 p p' q q' u u' v v' a b c d e f g h) : gf_cone d1 d2 d3 d4 p p' q q' u u' v v' e f g h (a - w * e) (b - w * f) (c - w * g) (d - w * h) := by
  obtain ⟨h1, h2, h3, h4, h5, h6, h7, h8⟩ := H
  refine ⟨s, 1, 0, S.1, by omega, by omega, ⟨?_, ?_, ?_, ?_⟩, gf_cns_out S⟩
  · rw [← h5, Int.one_mul, Int.zero_mul, Int.add_zero]
  · rw [← h6, Int.one_mul, Int.zero_mul, Int.add_zero]
  · rw [← h7, Int.one_mul, Int.zero_mul, Int.add_zero]
  · rw [← h8, Int.one_mul, Int.zero_mul, Int.add_zero]
theorem gf_w1s {w s s' n m : Int} (hs : s = 1 ∨ s = -1) (hs' : s' = 1 ∨ s' = -1) (h : gf_cor w s n m) (h' : gf_cn s' n m) : 1 ≤ w := by
  obtain ⟨h1, h2, h3⟩ := h
  obtain ⟨k1, k2⟩ := h'
  have e : s = s' := by
    rcases hs with rfl | rfl <;> rcases hs' with rfl | rfl <;> omega
  subst e
  exact gf_w1 h1 k2 h3
theorem gf_cone_out {w s : Int} (S : gf_sure a b c d e f g h w s) (H : gf_cone d1 d2 d3 d4 p p' q q' u u' v v' a b c d e f g h) : gf_cone d1 d2 d3 d4 p p' q q' u u' v v' e f g h (a - w * e) (b - w * f) (c - w * g) (d - w * h) := by
  obtain ⟨s', K, K', hs, k1, k2, ⟨q1, q2, q3, q4⟩, ⟨c1, c2, c3, c4⟩⟩ := H
  have w1 := gf_w1s S.1 hs S.2.1 c1
  have m : 1 * 1 ≤ K * w := Int.mul_le_mul k1 w1 (by omega) (by omega)
  refine ⟨s, K * w + K', K, S.1, by omega, by omega, ⟨?_, ?_, ?_, ?_⟩, gf_cns_out S⟩
  · rw [← q1]
    grind
  · rw [← q2]
    grind
  · rw [← q3]
    grind
  · rw [← q4]
    grind
/-! bounds of the corners -/
theorem gf_cn_b {s K K' n m X : Int} (hs : s = 1 ∨ s = -1) (k1 : 1 ≤ K) (k2 : 0 ≤ K') (h : gf_cn s n m) (e : K * n + K' * m = X) (hX : gf_M X) : gf_B n ∧ gf_B m := by
  obtain ⟨c1, c2⟩ := h
  obtain ⟨x1, x2⟩ := hX
  have m1 : 1 * (s * n) ≤ K * (s * n) := Int.mul_le_mul_of_nonneg_right k1 (by omega)
  have m2 : 0 ≤ K' * (s * m) := Int.mul_nonneg k2 c1
  have r : K * (s * n) + K' * (s * m) = s * X := by
    rw [← e]
    grind
  unfold gf_B
  rcases hs with rfl | rfl
  · exact ⟨⟨by omega, by omega⟩, ⟨by omega, by omega⟩⟩
  · exact ⟨⟨by omega, by omega⟩, ⟨by omega, by omega⟩⟩
theorem gf_pre_bd (hn : gf_cb n1 n2 n3 n4) (hd : gf_cb d1 d2 d3 d4) (hx : gf_pq p q) (hx' : gf_pq (p + p') (q + q')) (hy : gf_pq u v) (hy' : gf_pq (u + u') (v + v')) (H : gf_pre n1 n2 n3 n4 d1 d2 d3 d4 p p' q q' u u' v v' a b c d e f g h) : gf_bd a b c d e f g h := by
  obtain ⟨h1, h2, h3, h4, h5, h6, h7, h8⟩ := H
  have g1 := gf_M_B (gf_F_b hn hx hy)
  have g2 := gf_M_B (gf_F_b hd hx hy)
  have g3 := gf_M_B (gf_F_b hn hx hy')
  have g4 := gf_M_B (gf_F_b hd hx hy')
  have g5 := gf_M_B (gf_F_b hn hx' hy)
  have g6 := gf_M_B (gf_F_b hd hx' hy)
  have g7 := gf_M_B (gf_F_b hn hx' hy')
  have g8 := gf_M_B (gf_F_b hd hx' hy')
  rw [gf_F_ay, ← h1, ← h2] at g3
  rw [gf_F_ay, ← h5, ← h6] at g4
  rw [gf_F_ax, ← h1, ← h3] at g5
  rw [gf_F_ax, ← h5, ← h7] at g6
  rw [gf_F_ax, gf_F_ay, gf_F_ay, ← h1, ← h2, ← h3, ← h4, ← Int.add_assoc] at g7
  rw [gf_F_ax, gf_F_ay, gf_F_ay, ← h5, ← h6, ← h7, ← h8, ← Int.add_assoc] at g8
  rw [← h1] at g1
  rw [← h5] at g2
  exact ⟨g1, g2, g3, g4, g5, g6, g7, g8⟩
theorem gf_cone_bd (hd : gf_cb d1 d2 d3 d4) (hx : gf_pq p q) (hx' : gf_pq (p + p') (q + q')) (hy : gf_pq u v) (hy' : gf_pq (u + u') (v + v')) (H : gf_cone d1 d2 d3 d4 p p' q q' u u' v v' a b c d e f g h) : gf_bd a b c d e f g h := by
  obtain ⟨s, K, K', hs, k1, k2, ⟨q1, q2, q3, q4⟩, ⟨c1, c2, c3, c4⟩⟩ := H
  have g1 := gf_cn_b hs k1 k2 c1 q1 (gf_F_b hd hx hy)
  have g2 := gf_cn_b hs k1 k2 c2 (by rw [gf_F_ay, ← q1, ← q2]; grind) (gf_F_b hd hx hy')
  have g3 := gf_cn_b hs k1 k2 c3 (by rw [gf_F_ax, ← q1, ← q3]; grind) (gf_F_b hd hx' hy)
  have g4 := gf_cn_b hs k1 k2 c4 (by rw [gf_F_ax, gf_F_ay, gf_F_ay, ← q1, ← q2, ← q3, ← q4]; grind) (gf_F_b hd hx' hy')
  exact ⟨g1.1, g1.2, g2.1, g2.2, g3.1, g3.2, g4.1, g4.2⟩
end
/-! the value's floor is the corners' -/
theorem gf_cor_lin {w s n1 m1 n2 m2 k : Int} (h1 : gf_cor w s n1 m1) (h2 : gf_cor w s n2 m2) (hk : 0 ≤ k) : gf_cor w s (k * n1 + n2) (k * m1 + m2) := by
  obtain ⟨a1, a2, a3⟩ := h1
  obtain ⟨b1, b2, b3⟩ := h2
  have e1 : 0 ≤ k * (s * m1) := Int.mul_nonneg hk (by omega)
  have e2 : k * (w * (s * m1)) ≤ k * (s * n1) := Int.mul_le_mul_of_nonneg_left a2 hk
  have e3 : k * (s * n1) ≤ k * (w * (s * m1) + s * m1) := Int.mul_le_mul_of_nonneg_left (by omega) hk
  have r1 : s * (k * m1 + m2) = k * (s * m1) + s * m2 := by grind
  have r2 : s * (k * n1 + n2) = k * (s * n1) + s * n2 := by grind
  have r3 : w * (k * (s * m1) + s * m2) = k * (w * (s * m1)) + w * (s * m2) := by grind
  have r4 : k * (w * (s * m1) + s * m1) = k * (w * (s * m1)) + k * (s * m1) := by grind
  unfold gf_cor
  rw [r1, r2, r3]
  exact ⟨by omega, by omega, by omega⟩
theorem gf_sure_v {a b c d e f g h w s xs xt ys yt : Int} (S : gf_sure a b c d e f g h w s) (hx0 : 0 ≤ xt) (hx : xt < xs) (hy0 : 0 ≤ yt) (hy : yt < ys) : gf_cf (gf_F a b c d xs xt ys yt) (gf_F e f g h xs xt ys yt) = w :: gf_cf (gf_F e f g h xs xt ys yt) (gf_F (a - w * e) (b - w * f) (c - w * g) (d - w * h) xs xt ys yt) := by
  obtain ⟨hs, c1, c2, c3, c4⟩ := S
  have z1 : 1 * 1 ≤ (xs - xt) * (ys - yt) := Int.mul_le_mul (by omega) (by omega) (by omega) (by omega)
  have z2 : 0 ≤ (xs - xt) * yt := Int.mul_nonneg (by omega) hy0
  have z3 : 0 ≤ xt * (ys - yt) := Int.mul_nonneg hx0 (by omega)
  have z4 : 0 ≤ xt * yt := Int.mul_nonneg hx0 hy0
  have k := gf_cor_lin c4 (gf_cor_lin c3 (gf_cor_lin c2 (gf_cor_lin (k := (xs - xt) * (ys - yt) - 1) c1 c1 (by omega)) z2) z3) z4
  rw [← gf_F_wt, ← gf_F_wt] at k
  obtain ⟨k1, k2⟩ := gf_cor_fd hs k
  exact gf_cf_w k1 k2 (gf_F_out a b c d e f g h w xs xt ys yt)
end
section
/-! the run's invariant, whole -/
section
variable {cnt0 chn0 : Nat → Int32} {La Lb : List Int} {Qa Qb n1 n2 n3 n4 d1 d2 d3 d4 : Int} {C outs : List Int} {i j : Nat} {a b c d e f g h : Int}
def gf_RI (La Lb : List Int) (Qa Qb n1 n2 n3 n4 d1 d2 d3 d4 : Int) (C outs : List Int) (i j : Nat) (a b c d e f g h : Int) : Prop :=
  ∃ p p' q q' xs xt u u' v v' ys yt : Int, gf_sd La Qa i p p' q q' xs xt ∧ gf_sd Lb Qb j u u' v v' ys yt ∧ ((outs = [] ∧ gf_pre n1 n2 n3 n4 d1 d2 d3 d4 p p' q q' u u' v v' a b c d e f g h) ∨ (1 ≤ i ∧ 1 ≤ j ∧ gf_cone d1 d2 d3 d4 p p' q q' u u' v v' a b c d e f g h)) ∧ C = outs ++ gf_cf (gf_F a b c d xs xt ys yt) (gf_F e f g h xs xt ys yt)
theorem gf_RI_tx (R : gf_RI La Lb Qa Qb n1 n2 n3 n4 d1 d2 d3 d4 C outs i j a b c d e f g h) (hi : i < La.length) : gf_RI La Lb Qa Qb n1 n2 n3 n4 d1 d2 d3 d4 C outs (i + 1) j (a * La.getD i 0 + c) (b * La.getD i 0 + d) a b (e * La.getD i 0 + g) (f * La.getD i 0 + h) e f := by
  obtain ⟨p, p', q, q', xs, xt, u, u', v, v', ys, yt, sx, sy, tt, vv⟩ := R
  obtain ⟨t, t1, t2, t3⟩ := gf_sd_take sx hi
  rw [t1]
  refine ⟨_, _, _, _, _, _, u, u', v, v', ys, yt, t3, sy, ?_, ?_⟩
  · rcases tt with ⟨o, tt⟩ | ⟨i1, j1, tt⟩
    · exact Or.inl ⟨o, gf_pre_tx tt⟩
    · exact Or.inr ⟨by omega, j1, gf_cone_tx (t2 i1) tt⟩
  · rw [gf_F_vx, gf_F_vx]
    exact vv
theorem gf_RI_ty (R : gf_RI La Lb Qa Qb n1 n2 n3 n4 d1 d2 d3 d4 C outs i j a b c d e f g h) (hj : j < Lb.length) : gf_RI La Lb Qa Qb n1 n2 n3 n4 d1 d2 d3 d4 C outs i (j + 1) (a * Lb.getD j 0 + b) a (c * Lb.getD j 0 + d) c (e * Lb.getD j 0 + f) e (g * Lb.getD j 0 + h) g := by
  obtain ⟨p, p', q, q', xs, xt, u, u', v, v', ys, yt, sx, sy, tt, vv⟩ := R
  obtain ⟨t, t1, t2, t3⟩ := gf_sd_take sy hj
  rw [t1]
  refine ⟨p, p', q, q', xs, xt, _, _, _, _, _, _, sx, t3, ?_, ?_⟩
  · rcases tt with ⟨o, tt⟩ | ⟨i1, j1, tt⟩
    · exact Or.inl ⟨o, gf_pre_ty tt⟩
    · exact Or.inr ⟨i1, by omega, gf_cone_ty (t2 j1) tt⟩
  · rw [gf_F_vy, gf_F_vy]
    exact vv
theorem gf_RI_ex (R : gf_RI La Lb Qa Qb n1 n2 n3 n4 d1 d2 d3 d4 C outs i j a b c d e f g h) (hi : La.length ≤ i) : gf_RI La Lb Qa Qb n1 n2 n3 n4 d1 d2 d3 d4 C outs (i + 1) j a b a b e f e f := by
  obtain ⟨p, p', q, q', xs, xt, u, u', v, v', ys, yt, sx, sy, tt, vv⟩ := R
  obtain ⟨t1, t3⟩ := gf_sd_end sx hi
  refine ⟨_, _, _, _, _, _, u, u', v, v', ys, yt, t3, sy, ?_, ?_⟩
  · rcases tt with ⟨o, tt⟩ | ⟨i1, j1, tt⟩
    · exact Or.inl ⟨o, gf_pre_ex tt⟩
    · exact Or.inr ⟨by omega, j1, gf_cone_ex tt⟩
  · subst t1
    rw [gf_F_ex a b c d, gf_F_ex e f g h]
    exact vv
theorem gf_RI_ey (R : gf_RI La Lb Qa Qb n1 n2 n3 n4 d1 d2 d3 d4 C outs i j a b c d e f g h) (hj : Lb.length ≤ j) : gf_RI La Lb Qa Qb n1 n2 n3 n4 d1 d2 d3 d4 C outs i (j + 1) a a c c e e g g := by
  obtain ⟨p, p', q, q', xs, xt, u, u', v, v', ys, yt, sx, sy, tt, vv⟩ := R
  obtain ⟨t1, t3⟩ := gf_sd_end sy hj
  refine ⟨p, p', q, q', xs, xt, _, _, _, _, _, _, sx, t3, ?_, ?_⟩
  · rcases tt with ⟨o, tt⟩ | ⟨i1, j1, tt⟩
    · exact Or.inl ⟨o, gf_pre_ey tt⟩
    · exact Or.inr ⟨i1, by omega, gf_cone_ey tt⟩
  · subst t1
    rw [gf_F_ey a b c d, gf_F_ey e f g h]
    exact vv
theorem gf_RI_bd (R : gf_RI La Lb Qa Qb n1 n2 n3 n4 d1 d2 d3 d4 C outs i j a b c d e f g h) (hi : 1 ≤ i) (hj : 1 ≤ j) (hn : gf_cb n1 n2 n3 n4) (hd : gf_cb d1 d2 d3 d4) (ha : Qa ≤ 9999) (hb : Qb ≤ 9999) : gf_bd a b c d e f g h := by
  obtain ⟨p, p', q, q', xs, xt, u, u', v, v', ys, yt, sx, sy, tt, vv⟩ := R
  obtain ⟨x1, x2⟩ := gf_sd_pq sx hi ha
  obtain ⟨y1, y2⟩ := gf_sd_pq sy hj hb
  rcases tt with ⟨o, tt⟩ | ⟨i1, j1, tt⟩
  · exact gf_pre_bd hn hd x1 x2 y1 y2 tt
  · exact gf_cone_bd hd x1 x2 y1 y2 tt
theorem gf_RI_out {w s : Int} (R : gf_RI La Lb Qa Qb n1 n2 n3 n4 d1 d2 d3 d4 C outs i j a b c d e f g h) (hi : 1 ≤ i) (hj : 1 ≤ j) (S : gf_sure a b c d e f g h w s) : (∃ l, C = outs ++ w :: l) ∧ gf_RI La Lb Qa Qb n1 n2 n3 n4 d1 d2 d3 d4 C (outs ++ [w]) i j e f g h (a - w * e) (b - w * f) (c - w * g) (d - w * h) := by
  obtain ⟨p, p', q, q', xs, xt, u, u', v, v', ys, yt, sx, sy, tt, vv⟩ := R
  have x1 := gf_sd_1 sx hi
  have y1 := gf_sd_1 sy hj
  rw [gf_sure_v S x1.1 x1.2.1 y1.1 y1.2.1] at vv
  refine ⟨⟨_, vv⟩, p, p', q, q', xs, xt, u, u', v, v', ys, yt, sx, sy, Or.inr ⟨hi, hj, ?_⟩, ?_⟩
  · rcases tt with ⟨o, tt⟩ | ⟨i1, j1, tt⟩
    · exact gf_pre_out S tt
    · exact gf_cone_out S tt
  · rw [vv, List.append_assoc]
    rfl
theorem gf_RI_fin (R : gf_RI La Lb Qa Qb n1 n2 n3 n4 d1 d2 d3 d4 C outs i j a b c d e f g h) (hi : La.length < i) (hj : Lb.length < j) : C = outs ++ gf_cf a e := by
  obtain ⟨p, p', q, q', xs, xt, u, u', v, v', ys, yt, sx, sy, tt, vv⟩ := R
  have x1 := gf_sd_1 sx (by omega)
  have y1 := gf_sd_1 sy (by omega)
  obtain ⟨t1, _⟩ := gf_sd_end sx (by omega)
  obtain ⟨t2, _⟩ := gf_sd_end sy (by omega)
  subst t1 t2
  rw [gf_F_ee, gf_F_ee] at vv
  have z : xs * ys ≠ 0 := Int.mul_ne_zero (by have := x1.2.1; omega) (by have := y1.2.1; omega)
  rw [gf_cf_scale a e z] at vv
  exact vv
/-! the state -/
def gf_fr (cnt0 chn0 cnt chn : Nat → Int32) : Prop := (∀ r, r < 4 → cnt r = cnt0 r) ∧ (∀ x, x < 96 → chn x = chn0 x)
def gf_Out (outs : List Int) (cnt chn : Nat → Int32) : Prop := cnt 4 = nI outs.length ∧ gf_fit outs ∧ gf_at chn 96 outs
def gf_Ov (C : List Int) (cnt : Nat → Int32) : Prop := ¬ gf_fit C ∧ ∃ k, k ≤ 22 ∧ cnt 4 = nI k
def gf_St (cnt0 chn0 : Nat → Int32) (La Lb : List Int) (Qa Qb n1 n2 n3 n4 d1 d2 d3 d4 : Int) (C : List Int) (i j : Nat) (ov : Int32) (cnt chn : Nat → Int32) (tb : Nat → Int64) : Prop :=
  gf_fr cnt0 chn0 cnt chn ∧ ((ov = 0 ∧ ∃ (outs : List Int) (a b c d e f g h : Int), gf_tab tb a b c d e f g h ∧ gf_RI La Lb Qa Qb n1 n2 n3 n4 d1 d2 d3 d4 C outs i j a b c d e f g h ∧ gf_Out outs cnt chn) ∨ (ov = 1 ∧ gf_Ov C cnt))
def gf_Res (cnt0 chn0 : Nat → Int32) (C : List Int) (ov : Int32) (cnt chn : Nat → Int32) : Prop :=
  gf_fr cnt0 chn0 cnt chn ∧ ((ov = 0 ∧ gf_Out C cnt chn) ∨ (ov = 1 ∧ ¬ gf_fit C))
theorem gf_nfit {outs l : List Int} {w : Int} (h : C = outs ++ w :: l) (z : ¬ (-9999 ≤ w ∧ w ≤ 9999) ∨ outs.length = 22) : ¬ gf_fit C := by
  intro k
  obtain ⟨k1, k2⟩ := k
  subst h
  rw [List.length_append, List.length_cons] at k1
  rcases z with z | z
  · exact z (k2 w (List.mem_append_right _ List.mem_cons_self))
  · omega
theorem gf_fit_app {w : Int} (h : gf_fit outs) (h1 : -9999 ≤ w) (h2 : w ≤ 9999) (h3 : outs.length < 22) : gf_fit (outs ++ [w]) := by
  refine ⟨by rw [List.length_append, List.length_singleton]; omega, fun x hx => ?_⟩
  rcases List.mem_append.mp hx with hx | hx
  · exact h.2 x hx
  · rw [List.mem_singleton.mp hx]
    exact ⟨h1, h2⟩
theorem gf_gd_l {l1 l2 : List Int} {k : Nat} (h : k < l1.length) : (l1 ++ l2).getD k 0 = l1.getD k 0 := by
  rw [List.getD_eq_getElem?_getD, List.getD_eq_getElem?_getD, List.getElem?_append_left h]
theorem gf_gd_r {l1 l2 : List Int} {w : Int} : (l1 ++ w :: l2).getD l1.length 0 = w := by
  rw [List.getD_eq_getElem?_getD, List.getElem?_append_right (Nat.le_refl _), Nat.sub_self]
  rfl
theorem gf_at_app {chn : Nat → Int32} {w : Int} {m : Nat} (h : gf_at chn m outs) : gf_at (upd chn (m + outs.length) (gf_i w)) m (outs ++ [w]) := by
  intro k hk
  rw [List.length_append, List.length_singleton] at hk
  by_cases z : k = outs.length
  · subst z
    rw [pk_us]
    congr 1
    exact gf_gd_r.symm
  · rw [pk_un (by omega), h k (by omega), gf_gd_l (by omega)]
theorem gf_Out_app {cnt chn : Nat → Int32} {w : Int} {k : Nat} (h : gf_Out outs cnt chn) (hk : k = outs.length) (h1 : -9999 ≤ w) (h2 : w ≤ 9999) (h3 : k < 22) : gf_Out (outs ++ [w]) (upd cnt 4 (nI (k + 1))) (upd chn (96 + k) (gf_i w)) := by
  subst hk
  refine ⟨?_, gf_fit_app h.2.1 h1 h2 h3, gf_at_app h.2.2⟩
  rw [pk_us, List.length_append, List.length_singleton]
theorem gf_fr_app {cnt chn : Nat → Int32} {x : Int32} {k m : Nat} {y : Int32} (h : gf_fr cnt0 chn0 cnt chn) (hm : 96 ≤ m) (hk : 4 ≤ k) : gf_fr cnt0 chn0 (upd cnt k x) (upd chn m y) := by
  refine ⟨fun r hr => ?_, fun z hz => ?_⟩
  · rw [pk_un (by omega)]
    exact h.1 r hr
  · rw [pk_un (by omega)]
    exact h.2 z hz
end
end
section
/-! the walk of giveRest and run -/
section
variable {cnt0 chn0 : Nat → Int32} {La Lb : List Int} {Qa Qb n1 n2 n3 n4 d1 d2 d3 d4 : Int} {C outs : List Int} {i j ra rb : Nat} {a b c d e f g h : Int} {post : SX → Prop} {ov : Int32} {vt vb : Int64} {cnt chn : Nat → Int32} {tb : Nat → Int64}
theorem gf_gr57_ov {k : Nat} (fr : gf_fr cnt0 chn0 cnt chn) (hk : cnt 4 = nI k) (h22 : k ≤ 22) (K : ∀ cnt' chn' : Nat → Int32, gf_fr cnt0 chn0 cnt' chn' → post (ov, vt, vb, cnt', chn', tb)) : wX_giveRest_57 post ov vt vb cnt chn tb := by
  unfold wX_giveRest_57
  exact gf_melt hk h22 (fun _ => K _ _ fr) (fun k2 _ => K _ _ (gf_fr_app fr (by omega) (by omega)))
theorem gf_gr57_ok (hO : gf_Out C cnt chn) (hC : 2 ≤ C.length → C.getD (C.length - 1) 0 ≠ 1) (K : post (ov, vt, vb, cnt, chn, tb)) : wX_giveRest_57 post ov vt vb cnt chn tb := by
  unfold wX_giveRest_57
  refine gf_melt hO.1 hO.2.1.1 (fun _ => K) (fun k2 z => absurd ?_ (hC k2))
  have m := hO.2.1.2 _ (gf_getD_mem (L := C) (i := C.length - 1) (by omega))
  rw [hO.2.2 _ (by omega), gf_i1] at z
  exact (gf_i_eq ⟨by omega, by omega⟩ ⟨by omega, by omega⟩).mp z
theorem gf_gr14 (hC : 2 ≤ C.length → C.getD (C.length - 1) 0 ≠ 1) (K : ∀ (ov : Int32) (cnt chn : Nat → Int32), gf_Res cnt0 chn0 C ov cnt chn → post (ov, vt, vb, cnt, chn, tb)) : ∀ (n : Nat) (x1 x3 : Int) (outs : List Int) (cnt chn : Nat → Int32), x3.natAbs < n → gf_B x1 → gf_B x3 → C = outs ++ gf_cf x1 x3 → gf_Out outs cnt chn → gf_fr cnt0 chn0 cnt chn → wX_giveRest_14 post n (gf_l x1) (gf_l x3) 0 vt vb cnt chn tb := by
  intro n
  induction n with
  | zero =>
    intro x1 x3 outs cnt chn hn
    omega
  | succ n ih =>
    intro x1 x3 outs cnt chn hn B1 B3 hc hO fr
    refine ek_if (gf_eq0 B3) (fun z => ?_) (fun z => br_t rfl (gf_floored B1 B3 z (gf_append (gf_fB B1 z) hO.1 hO.2.1.1 (fun o => nm_e ?_) (fun o1 o2 o3 => nm_r (e' := gf_l (x1 - x1.fdiv x3 * x3)) ?_ ?_))))
    · subst z
      rw [gf_cf_0, List.append_nil] at hc
      subst hc
      exact gf_gr57_ok hO hC (K 0 cnt chn ⟨fr, Or.inl ⟨rfl, hO⟩⟩)
    · obtain ⟨n, rfl⟩ : ∃ m, n = m + 1 := ⟨n - 1, by omega⟩
      rw [gf_cf_s z] at hc
      have y := gf_nfit hc o
      have w := gf_gr57_ov (post := post) (ov := 1) (vt := vt) (vb := vb) (tb := tb) fr hO.1 hO.2.1.1 (fun cnt' chn' fr' => K 1 cnt' chn' ⟨fr', Or.inr ⟨rfl, y⟩⟩)
      exact br_c (fun _ => w) (fun _ => br_f gf_ne10 w)
    · rw [gf_l_mul, gf_l_sub]
    · have d := gf_cf_dec (p := x1) z
      obtain ⟨b1, b2⟩ := B3
      refine ih x3 _ (outs ++ [x1.fdiv x3]) _ _ (by omega) ⟨b1, b2⟩ ⟨by omega, by omega⟩ ?_ (gf_Out_app hO rfl o1 o2 o3) (gf_fr_app fr (by omega) (by omega))
      rw [hc, gf_cf_s z, List.append_assoc]
      rfl
theorem gf_giveRest (hC : 2 ≤ C.length → C.getD (C.length - 1) 0 ≠ 1) (T : gf_tab tb a b c d e f g h) (B1 : gf_B a) (B3 : gf_B e) (hc : C = outs ++ gf_cf a e) (hO : gf_Out outs cnt chn) (fr : gf_fr cnt0 chn0 cnt chn) (K : ∀ (ov : Int32) (cnt chn : Nat → Int32), gf_Res cnt0 chn0 C ov cnt chn → post (ov, vt, vb, cnt, chn, tb)) : wpX_giveRest post (0, vt, vb, cnt, chn, tb) :=
  nm_r T.1 (nm_r T.2.2.2.2.1 ⟨e.natAbs + 1, gf_gr14 hC K _ _ _ outs _ _ (by omega) B1 B3 hc hO fr⟩)
theorem gf_giveRest_ov {k : Nat} (fr : gf_fr cnt0 chn0 cnt chn) (hk : cnt 4 = nI k) (h22 : k ≤ 22) (K : ∀ cnt' chn' : Nat → Int32, gf_fr cnt0 chn0 cnt' chn' → post (1, vt, vb, cnt', chn', tb)) : wpX_giveRest post (1, vt, vb, cnt, chn, tb) := by
  have w := gf_gr57_ov (post := post) (ov := 1) (vt := vt) (vb := vb) (tb := tb) fr hk h22 K
  exact nm_e (nm_e ⟨1, br_c (fun _ => w) (fun _ => br_f gf_ne10 w)⟩)
/-! run -/
def gf_Hy (cnt0 chn0 : Nat → Int32) (La Lb : List Int) (Qa Qb n1 n2 n3 n4 d1 d2 d3 d4 : Int) (C : List Int) (ra rb : Nat) : Prop :=
  (ra < 4 ∧ rb < 4) ∧ (cnt0 ra = nI La.length ∧ La.length ≤ 19 ∧ gf_at chn0 (24 * ra) La ∧ (∀ x, x ∈ La → gf_S x)) ∧ (cnt0 rb = nI Lb.length ∧ Lb.length ≤ 19 ∧ gf_at chn0 (24 * rb) Lb ∧ (∀ x, x ∈ Lb → gf_S x)) ∧ (gf_cb n1 n2 n3 n4 ∧ gf_cb d1 d2 d3 d4 ∧ Qa ≤ 9999 ∧ Qb ≤ 9999) ∧ (2 ≤ C.length → C.getD (C.length - 1) 0 ≠ 1)
variable {J : Int32 → Int32 → Int32 → Int64 → Int64 → (Nat → Int32) → (Nat → Int32) → (Nat → Int64) → Prop} {x1 x2 : Int32}
theorem gf_r158_ov {x3 x4 : Int32} {n : Nat} (h : J x3 x4 1 vt vb cnt chn tb) : wX_run_158 post J x1 x2 x3 x4 1 (n + 1) 1 vt vb cnt chn tb :=
  br_f gf_ne10 (br_f gf_ne10 h)
theorem gf_r158 (H : gf_Hy cnt0 chn0 La Lb Qa Qb n1 n2 n3 n4 d1 d2 d3 d4 C ra rb) (hi : 1 ≤ i) (hj : 1 ≤ j) (HJ : ∀ (ov : Int32) (vt vb : Int64) (cnt chn : Nat → Int32) (tb : Nat → Int64), gf_St cnt0 chn0 La Lb Qa Qb n1 n2 n3 n4 d1 d2 d3 d4 C i j ov cnt chn tb → J (nI i) (nI j) ov vt vb cnt chn tb) : ∀ (n : Nat) (outs : List Int) (a b c d e f g h : Int) (vt vb : Int64) (cnt chn : Nat → Int32) (tb : Nat → Int64), 23 ≤ n + outs.length → gf_fr cnt0 chn0 cnt chn → gf_tab tb a b c d e f g h → gf_RI La Lb Qa Qb n1 n2 n3 n4 d1 d2 d3 d4 C outs i j a b c d e f g h → gf_Out outs cnt chn → wX_run_158 post J x1 x2 (nI i) (nI j) 1 n 0 vt vb cnt chn tb := by
  intro n
  induction n with
  | zero =>
    intro outs a b c d e f g h vt vb cnt chn tb hn fr T R O
    have := O.2.1.1
    omega
  | succ n ih =>
    intro outs a b c d e f g h vt vb cnt chn tb hn fr T R O
    have St0 : gf_St cnt0 chn0 La Lb Qa Qb n1 n2 n3 n4 d1 d2 d3 d4 C i j 0 cnt chn tb := ⟨fr, Or.inl ⟨rfl, outs, a, b, c, d, e, f, g, h, T, R, O⟩⟩
    have Bd := gf_RI_bd R hi hj H.2.2.2.1.1 H.2.2.2.1.2.1 H.2.2.2.1.2.2.1 H.2.2.2.1.2.2.2
    refine br_f gf_ne10 (br_t rfl (gf_sureX T Bd O.1 O.2.1.1 (br_t rfl (HJ _ _ _ _ _ _ St0)) fun w s k22 S => br_f gf_ne10 ?_))
    obtain ⟨⟨l, hl⟩, R'⟩ := gf_RI_out R hi hj S
    obtain ⟨e0, hw⟩ := gf_cor_fd S.1 S.2.1
    refine gf_giveOut T Bd.1 Bd.2.1 e0 hw O.1 O.2.1.1 (fun tb' o => ?_) (fun tb' o1 o2 o3 T' => ?_)
    · obtain ⟨n, rfl⟩ : ∃ m, n = m + 1 := ⟨n - 1, by omega⟩
      exact gf_r158_ov (HJ _ _ _ _ _ _ ⟨fr, Or.inr ⟨rfl, gf_nfit hl o, _, O.2.1.1, O.1⟩⟩)
    · exact ih (outs ++ [w]) _ _ _ _ _ _ _ _ _ _ _ _ _ (by rw [List.length_append, List.length_singleton]; omega) (gf_fr_app fr (by omega) (by omega)) T' R' (gf_Out_app O rfl o1 o2 o3)
theorem gf_r142 (H : gf_Hy cnt0 chn0 La Lb Qa Qb n1 n2 n3 n4 d1 d2 d3 d4 C ra rb) (hi : i < 100) (hj : j < 100) (S : gf_St cnt0 chn0 La Lb Qa Qb n1 n2 n3 n4 d1 d2 d3 d4 C i j ov cnt chn tb) (HJ : ∀ (ov : Int32) (vt vb : Int64) (cnt chn : Nat → Int32) (tb : Nat → Int64), gf_St cnt0 chn0 La Lb Qa Qb n1 n2 n3 n4 d1 d2 d3 d4 C i j ov cnt chn tb → J (nI i) (nI j) ov vt vb cnt chn tb) : wX_run_142 post J x1 x2 (nI i) (nI j) ov vt vb cnt chn tb := by
  refine pk_le i 0 (fun z => ⟨1, br_t rfl (HJ _ _ _ _ _ _ S)⟩) fun zi => pk_le j 0 (fun z => ⟨1, br_t rfl (HJ _ _ _ _ _ _ S)⟩) fun zj => ⟨24, ?_⟩
  obtain ⟨fr, S'⟩ := S
  rcases S' with ⟨rfl, outs, a, b, c, d, e, f, g, h, T, R, O⟩ | ⟨rfl, S'⟩
  · exact gf_r158 H zi zj HJ 24 outs a b c d e f g h vt vb cnt chn tb (by omega) fr T R O
  · exact gf_r158_ov (HJ _ _ _ _ _ _ ⟨fr, Or.inr ⟨rfl, S'⟩⟩)
theorem gf_r65 (H : gf_Hy cnt0 chn0 La Lb Qa Qb n1 n2 n3 n4 d1 d2 d3 d4 C ra rb) (hi : i ≤ La.length) (hj : j ≤ Lb.length + 1) (S : gf_St cnt0 chn0 La Lb Qa Qb n1 n2 n3 n4 d1 d2 d3 d4 C i j ov cnt chn tb) (HJ : ∀ (ov : Int32) (vt vb : Int64) (cnt chn : Nat → Int32) (tb : Nat → Int64), gf_St cnt0 chn0 La Lb Qa Qb n1 n2 n3 n4 d1 d2 d3 d4 C (i + 1) j ov cnt chn tb → J (nI (i + 1)) (nI j) ov vt vb cnt chn tb) : wX_run_65 post J (nI ra) (nI rb) (nI i) (nI j) ov vt vb cnt chn tb := by
  obtain ⟨⟨ra4, rb4⟩, ⟨a1, a2, a3, a4⟩, ⟨b1, b2, b3, b4⟩, _⟩ := id H
  have fr := S.1
  have ec : cnt (nI ra).toNatClampNeg = nI La.length := by rw [nI_clamp (by omega), fr.1 ra ra4, a1]
  refine And.intro (vp_in_nI (by omega) (by omega)) ?_
  rw [ec]
  refine pk_le La.length i (fun z => ?_) (fun z => And.intro (by rw [gf_ix]; exact vp_in_nI (by omega) (by omega)) ?_)
  · obtain ⟨fr, S'⟩ := S
    rcases S' with ⟨rfl, outs, a, b, c, d, e, f, g, h, T, R, O⟩ | ⟨rfl, S'⟩
    · exact gf_endX T fun tb' T' => nm_r (nI_1 i) (gf_r142 H (by omega) (by omega) ⟨fr, Or.inl ⟨rfl, outs, _, _, _, _, _, _, _, _, T', gf_RI_ex R z, O⟩⟩ HJ)
    · obtain ⟨a, b, c, d, e, f, g, h, T⟩ := gf_tab_any tb
      exact gf_endX T fun tb' T' => nm_r (nI_1 i) (gf_r142 H (by omega) (by omega) ⟨fr, Or.inr ⟨rfl, S'⟩⟩ HJ)
  · have et : (chn ((24 : Int32) * nI ra + nI i).toNatClampNeg).toInt64 = gf_l (La.getD i 0) := by
      rw [gf_cl ra i (by omega), fr.2 _ (by omega), a3 i z, gf_i_l (a4 _ (gf_getD_mem z))]
    rw [et]
    obtain ⟨fr, S'⟩ := S
    rcases S' with ⟨rfl, outs, a, b, c, d, e, f, g, h, T, R, O⟩ | ⟨rfl, S'⟩
    · exact gf_takeX T fun tb' T' => nm_r (nI_1 i) (gf_r142 H (by omega) (by omega) ⟨fr, Or.inl ⟨rfl, outs, _, _, _, _, _, _, _, _, T', gf_RI_tx R z, O⟩⟩ HJ)
    · obtain ⟨a, b, c, d, e, f, g, h, T⟩ := gf_tab_any tb
      exact gf_takeX T fun tb' T' => nm_r (nI_1 i) (gf_r142 H (by omega) (by omega) ⟨fr, Or.inr ⟨rfl, S'⟩⟩ HJ)
theorem gf_r54 (H : gf_Hy cnt0 chn0 La Lb Qa Qb n1 n2 n3 n4 d1 d2 d3 d4 C ra rb) (hi : i ≤ La.length + 1) (hj : j ≤ Lb.length + 1) (hij : Lb.length < j → i ≤ La.length) (S : gf_St cnt0 chn0 La Lb Qa Qb n1 n2 n3 n4 d1 d2 d3 d4 C i j ov cnt chn tb) (HJx : i ≤ La.length → ∀ (ov : Int32) (vt vb : Int64) (cnt chn : Nat → Int32) (tb : Nat → Int64), gf_St cnt0 chn0 La Lb Qa Qb n1 n2 n3 n4 d1 d2 d3 d4 C (i + 1) j ov cnt chn tb → J (nI (i + 1)) (nI j) ov vt vb cnt chn tb) (HJy : j ≤ Lb.length → ∀ (ov : Int32) (vt vb : Int64) (cnt chn : Nat → Int32) (tb : Nat → Int64), gf_St cnt0 chn0 La Lb Qa Qb n1 n2 n3 n4 d1 d2 d3 d4 C i (j + 1) ov cnt chn tb → J (nI i) (nI (j + 1)) ov vt vb cnt chn tb) : wX_run_54 post J (nI ra) (nI rb) (nI i) (nI j) ov vt vb cnt chn tb := by
  obtain ⟨⟨ra4, rb4⟩, ⟨a1, a2, a3, a4⟩, ⟨b1, b2, b3, b4⟩, _⟩ := id H
  have fr := S.1
  have ec : cnt (nI rb).toNatClampNeg = nI Lb.length := by rw [nI_clamp (by omega), fr.1 rb rb4, b1]
  refine And.intro (vp_in_nI (by omega) (by omega)) ?_
  rw [ec]
  refine pk_le j Lb.length (fun y => And.intro (vp_in_nI (by omega) (by omega)) (pk_le Lb.length j (fun z => ?_) (fun z => And.intro (by rw [gf_ix]; exact vp_in_nI (by omega) (by omega)) ?_))) (fun y => gf_r65 H (hij y) hj S (HJx (hij y)))
  · obtain ⟨fr, S'⟩ := S
    rcases S' with ⟨rfl, outs, a, b, c, d, e, f, g, h, T, R, O⟩ | ⟨rfl, S'⟩
    · exact gf_endY T fun tb' T' => nm_r (nI_1 j) (gf_r142 H (by omega) (by omega) ⟨fr, Or.inl ⟨rfl, outs, _, _, _, _, _, _, _, _, T', gf_RI_ey R z, O⟩⟩ (HJy y))
    · obtain ⟨a, b, c, d, e, f, g, h, T⟩ := gf_tab_any tb
      exact gf_endY T fun tb' T' => nm_r (nI_1 j) (gf_r142 H (by omega) (by omega) ⟨fr, Or.inr ⟨rfl, S'⟩⟩ (HJy y))
  · have et : (chn ((24 : Int32) * nI rb + nI j).toNatClampNeg).toInt64 = gf_l (Lb.getD j 0) := by
      rw [gf_cl rb j (by omega), fr.2 _ (by omega), b3 j z, gf_i_l (b4 _ (gf_getD_mem z))]
    rw [et]
    obtain ⟨fr, S'⟩ := S
    rcases S' with ⟨rfl, outs, a, b, c, d, e, f, g, h, T, R, O⟩ | ⟨rfl, S'⟩
    · exact gf_takeY T fun tb' T' => nm_r (nI_1 j) (gf_r142 H (by omega) (by omega) ⟨fr, Or.inl ⟨rfl, outs, _, _, _, _, _, _, _, _, T', gf_RI_ty R z, O⟩⟩ (HJy y))
    · obtain ⟨a, b, c, d, e, f, g, h, T⟩ := gf_tab_any tb
      exact gf_takeY T fun tb' T' => nm_r (nI_1 j) (gf_r142 H (by omega) (by omega) ⟨fr, Or.inr ⟨rfl, S'⟩⟩ (HJy y))
theorem gf_r38 (H : gf_Hy cnt0 chn0 La Lb Qa Qb n1 n2 n3 n4 d1 d2 d3 d4 C ra rb) (hi : i ≤ La.length + 1) (hj : j ≤ Lb.length + 1) (hij : Lb.length < j → i ≤ La.length) (S : gf_St cnt0 chn0 La Lb Qa Qb n1 n2 n3 n4 d1 d2 d3 d4 C i j ov cnt chn tb) (HJx : i ≤ La.length → ∀ (ov : Int32) (vt vb : Int64) (cnt chn : Nat → Int32) (tb : Nat → Int64), gf_St cnt0 chn0 La Lb Qa Qb n1 n2 n3 n4 d1 d2 d3 d4 C (i + 1) j ov cnt chn tb → J (nI (i + 1)) (nI j) ov vt vb cnt chn tb) (HJy : j ≤ Lb.length → ∀ (ov : Int32) (vt vb : Int64) (cnt chn : Nat → Int32) (tb : Nat → Int64), gf_St cnt0 chn0 La Lb Qa Qb n1 n2 n3 n4 d1 d2 d3 d4 C i (j + 1) ov cnt chn tb → J (nI i) (nI (j + 1)) ov vt vb cnt chn tb) : wX_run_38 post J (nI ra) (nI rb) (nI i) (nI j) ov vt vb cnt chn tb := by
  obtain ⟨⟨ra4, rb4⟩, ⟨a1, a2, a3, a4⟩, ⟨b1, b2, b3, b4⟩, _⟩ := id H
  have ec : cnt (nI ra).toNatClampNeg = nI La.length := by rw [nI_clamp (by omega), S.1.1 ra ra4, a1]
  refine pk_lt j i (fun z => gf_r54 H hi hj hij S HJx HJy) (fun z => And.intro (vp_in_nI (by omega) (by omega)) ?_)
  rw [ec]
  exact pk_le i La.length (fun y => gf_r65 H y hj S (HJx y)) (fun y => gf_r54 H hi hj hij S HJx HJy)
theorem gf_r17 (H : gf_Hy cnt0 chn0 La Lb Qa Qb n1 n2 n3 n4 d1 d2 d3 d4 C ra rb) (K : ∀ (ov : Int32) (vt vb : Int64) (cnt chn : Nat → Int32) (tb : Nat → Int64), gf_Res cnt0 chn0 C ov cnt chn → post (ov, vt, vb, cnt, chn, tb)) : ∀ (m n i j : Nat) (ov : Int32) (vt vb : Int64) (cnt chn : Nat → Int32) (tb : Nat → Int64), m < n → (La.length + 1 - i) + (Lb.length + 1 - j) = m → i ≤ La.length + 1 → j ≤ Lb.length + 1 → gf_St cnt0 chn0 La Lb Qa Qb n1 n2 n3 n4 d1 d2 d3 d4 C i j ov cnt chn tb → wX_run_17 post (nI ra) (nI rb) n (nI i) (nI j) ov vt vb cnt chn tb := by
  obtain ⟨⟨ra4, rb4⟩, ⟨a1, a2, a3, a4⟩, ⟨b1, b2, b3, b4⟩, _⟩ := id H
  intro m
  induction m with
  | zero =>
    intro n i j ov vt vb cnt chn tb hn hm hi hj S
    obtain ⟨n, rfl⟩ : ∃ k, n = k + 1 := ⟨n - 1, by omega⟩
    have ea : cnt (nI ra).toNatClampNeg = nI La.length := by rw [nI_clamp (by omega), S.1.1 ra ra4, a1]
    have eb : cnt (nI rb).toNatClampNeg = nI Lb.length := by rw [nI_clamp (by omega), S.1.1 rb rb4, b1]
    refine And.intro (vp_in_nI (by omega) (by omega)) ?_
    rw [ea, eb]
    refine pk_le i La.length (fun z => by omega) fun z => And.intro (vp_in_nI (by omega) (by omega)) (pk_lt Lb.length j (fun y => ?_) (fun y => by omega))
    obtain ⟨fr, S'⟩ := S
    rcases S' with ⟨rfl, outs, a, b, c, d, e, f, g, h, T, R, O⟩ | ⟨rfl, S', k, k22, hk⟩
    · have Bd := gf_RI_bd R (by omega) (by omega) H.2.2.2.1.1 H.2.2.2.1.2.1 H.2.2.2.1.2.2.1 H.2.2.2.1.2.2.2
      exact gf_giveRest H.2.2.2.2 T Bd.1 Bd.2.1 (gf_RI_fin R z y) O fr (fun ov cnt chn r => K ov vt vb cnt chn tb r)
    · exact gf_giveRest_ov fr hk k22 (fun cnt' chn' fr' => K 1 vt vb cnt' chn' tb ⟨fr', Or.inr ⟨rfl, S'⟩⟩)
  | succ m ih =>
    intro n i j ov vt vb cnt chn tb hn hm hi hj S
    obtain ⟨n, rfl⟩ : ∃ k, n = k + 1 := ⟨n - 1, by omega⟩
    have ea : cnt (nI ra).toNatClampNeg = nI La.length := by rw [nI_clamp (by omega), S.1.1 ra ra4, a1]
    have eb : cnt (nI rb).toNatClampNeg = nI Lb.length := by rw [nI_clamp (by omega), S.1.1 rb rb4, b1]
    have go : wX_run_38 post (wX_run_17 post (nI ra) (nI rb) n) (nI ra) (nI rb) (nI i) (nI j) ov vt vb cnt chn tb :=
      gf_r38 H hi hj (fun z => by omega) S (fun y ov vt vb cnt chn tb S => ih n (i + 1) j _ _ _ _ _ _ (by omega) (by omega) (by omega) hj S) (fun y ov vt vb cnt chn tb S => ih n i (j + 1) _ _ _ _ _ _ (by omega) (by omega) hi (by omega) S)
    refine And.intro (vp_in_nI (by omega) (by omega)) ?_
    rw [ea, eb]
    exact pk_le i La.length (fun z => go) fun z => And.intro (vp_in_nI (by omega) (by omega)) (pk_lt Lb.length j (fun y => by omega) (fun y => go))
end
end
section
/-! the reference's methods -/
theorem pk_lT {n : Nat} (h : n < 2 ^ 63) : (lN n).toInt = (n : Int) := lg_ofNat_toInt h
theorem pk_lLT {a b : Nat} (ha : a < 2 ^ 63) (hb : b < 2 ^ 63) : lN a < lN b ↔ a < b := by
  rw [Int64.lt_iff_toInt_lt, pk_lT ha, pk_lT hb]; omega
theorem pk_lLE {a b : Nat} (ha : a < 2 ^ 63) (hb : b < 2 ^ 63) : lN a ≤ lN b ↔ a ≤ b := by
  rw [Int64.le_iff_toInt_le, pk_lT ha, pk_lT hb]; omega
theorem pk_lEQ {a b : Nat} (ha : a < 2 ^ 63) (hb : b < 2 ^ 63) : lN a = lN b ↔ a = b := by
  rw [← Int64.toInt_inj, pk_lT ha, pk_lT hb]; omega
theorem pk_lOf {x : Int64} (h : ¬ x < 0) : ∃ k : Nat, k < 2 ^ 63 ∧ x = lN k := by
  rw [Int64.lt_iff_toInt_lt] at h
  have h0 : (0 : Int64).toInt = 0 := by decide
  have hx := Int64.toInt_lt x
  refine ⟨x.toInt.toNat, by omega, Int64.toInt_inj.mp ?_⟩
  rw [pk_lT (by omega)]
  omega
theorem pk_lDiv {a b : Nat} (ha : a < 2 ^ 63) (h0 : 0 < b) (hb : b < 2 ^ 63) : lN a / lN b = lN (a / b) := by
  apply Int64.toInt_inj.mp
  rw [lg_ldiv_nonneg (by rw [pk_lT ha]; omega) (by rw [pk_lT hb]; omega), pk_lT ha, pk_lT hb, pk_lT (Nat.lt_of_le_of_lt (Nat.div_le_self a b) ha)]
  rfl
theorem pk_lRem {a b : Nat} (ha : a < 2 ^ 63) (h0 : 0 < b) (hb : b < 2 ^ 63) : lN a - lN a / lN b * lN b = lN (a % b) := by
  rw [pk_lDiv ha h0 hb, lN_mul, lN_sub (Nat.div_mul_le_self a b)]
  exact congrArg lN (by have := Nat.div_add_mod' a b; omega)
theorem gf_lN (n : Nat) : gf_l (n : Int) = lN n := Int64.ofInt_eq_ofNat
theorem gf_common18 {post : Int64 → Prop} {len : Int32} {tops bots chn : Nat → Int32} : ∀ (n x y : Nat), x < n → x < 2 ^ 63 → y < 2 ^ 63 → post (lN (Nat.gcd x y)) → wY_common_18 post len tops bots chn n (lN x) (lN y) := by
  intro n
  induction n with
  | zero =>
    intro x y hn
    omega
  | succ n ih =>
    intro x y hn hx hy h
    have e : lN x = 0 ↔ x = 0 := pk_lEQ (a := x) (b := 0) hx (by omega)
    refine ek_if e (fun z => ?_) (fun z => And.intro (fun w => z (e.mp w)) (nm_r (pk_lRem hy (by omega) hx) ?_))
    · subst z
      rw [Nat.gcd_zero_left] at h
      exact h
    · have l : y % x < x := Nat.mod_lt _ (by omega)
      refine ih (y % x) x (by omega) (by omega) hx ?_
      rw [← Nat.gcd_rec]
      exact h
theorem gf_common {post : Int64 → Prop} {len : Int32} {tops bots chn : Nat → Int32} {p q : Int} (hp : gf_B p) (hq : gf_B q) (q0 : 0 < q) (h : post (gf_l (Int.gcd p q : Int))) : wpY_common post (len, tops, bots, chn) (gf_l p) (gf_l q) := by
  obtain ⟨p1, p2⟩ := id hp
  obtain ⟨q1, q2⟩ := id hq
  have k := gf_common18 (post := post) (len := len) (tops := tops) (bots := bots) (chn := chn) (p.natAbs + 1) p.natAbs q.natAbs (by omega) (by omega) (by omega) (by rw [← gf_lN]; exact h)
  rw [← gf_lN, ← gf_lN, show ((q.natAbs : Nat) : Int) = q by omega] at k
  refine ek_if (gf_le0 hp) (fun z => ?_) (fun z => nm_r (e' := gf_l (0 - p)) ?_ ?_)
  · rw [show ((p.natAbs : Nat) : Int) = p by omega] at k
    exact ⟨_, k⟩
  · rw [gf_l0, gf_l_sub]
  · rw [show ((p.natAbs : Nat) : Int) = 0 - p by omega] at k
    exact ⟨_, k⟩
/-- within the bounds of a register (the denominator is above 0 already) -/
def gf_sm (P Q : Int) : Prop := -9999 ≤ P ∧ P ≤ 9999 ∧ Q ≤ 9999
theorem gf_store32 {post : Int32 → SY → Prop} {len : Int32} {tops bots chn : Nat → Int32} {r : Nat} (hr : r < 4) {k P Q : Int} (k0 : 0 < k) (q0 : 0 < Q) (hc : Int.gcd P Q = 1) (hp : gf_B (k * P)) (hq : gf_B (k * Q)) (h0 : ¬ gf_sm P Q → post 0 (len, tops, bots, chn)) (h1 : gf_sm P Q → post 1 (len, upd tops r (gf_i P), upd bots r (gf_i Q), chn)) : wY_store_32 post (nI r) (gf_l (k * P)) (gf_l (k * Q)) len tops bots chn := by
  have kq : 0 < k * Q := Int.mul_pos k0 q0
  have g : ((Int.gcd (k * P) (k * Q) : Nat) : Int) = k := by
    rw [Int.gcd_mul_left, hc]
    omega
  have kk : k ≤ k * Q := by
    have : k * 1 ≤ k * Q := Int.mul_le_mul_of_nonneg_left (by omega) (by omega)
    omega
  have hk : gf_B k := ⟨by omega, by have := hq.2; omega⟩
  have hP : gf_B P := by
    have e : (k * P).natAbs = k.natAbs * P.natAbs := Int.natAbs_mul k P
    have l : 1 * P.natAbs ≤ k.natAbs * P.natAbs := Nat.mul_le_mul_right _ (by omega)
    obtain ⟨p1, p2⟩ := hp
    exact ⟨by omega, by omega⟩
  have hQ : gf_B Q := by
    have : 1 * Q ≤ k * Q := Int.mul_le_mul_of_nonneg_right (by omega) (by omega)
    obtain ⟨p1, p2⟩ := hq
    exact ⟨by omega, by omega⟩
  refine gf_common hp hq kq ?_
  rw [g]
  have kz : ¬ gf_l k = 0 := fun z => by have := (gf_eq0 hk).mp z; omega
  have e1 : gf_l (k * P) / gf_l k = gf_l P := by
    rw [gf_l_div hp hk, Int.mul_tdiv_cancel_left _ (by omega)]
  have e2 : gf_l (k * Q) / gf_l k = gf_l Q := by
    rw [gf_l_div hq hk, Int.mul_tdiv_cancel_left _ (by omega)]
  have t1 : gf_l P < (-9999 : Int64) ↔ P < -9999 := by rw [gf_lm9]; exact gf_l_lt hP gf_Bm9
  have t2 : (9999 : Int64) < gf_l P ↔ 9999 < P := by rw [gf_l9]; exact gf_l_lt gf_B9 hP
  have t3 : gf_l Q ≤ (9999 : Int64) ↔ Q ≤ 9999 := by rw [gf_l9]; exact gf_l_le hQ gf_B9
  refine And.intro kz (nm_r e1 (And.intro kz (nm_r e2 (ek_if t1 (fun z => h0 (fun w => by have := w.1; omega)) fun z1 => ek_if t2 (fun z => h0 (fun w => by have := w.2.1; omega)) fun z2 => ek_if t3 (fun z3 => ?_) (fun z => h0 (fun w => by have := w.2.2; omega))))))
  refine And.intro (vp_in_nI hr (by omega)) ?_
  rw [nI_clamp (by omega), gf_l_i, gf_l_i]
  exact nm_e (And.intro (vp_in_nI hr (by omega)) (nm_e (h1 ⟨by omega, by omega, z3⟩)))
theorem gf_norm {N D : Int} (hD : D ≠ 0) : ∃ k : Int, k ≠ 0 ∧ (0 < k ↔ 0 < D) ∧ N = k * (gf_ev (gf_cf N D)).1 ∧ D = k * (gf_ev (gf_cf N D)).2 ∧ 0 < (gf_ev (gf_cf N D)).2 ∧ Int.gcd (gf_ev (gf_cf N D)).1 (gf_ev (gf_cf N D)).2 = 1 := by
  by_cases h : 0 < D
  · obtain ⟨g, g0, g1, g2⟩ := gf_ev_cf (p := N) h
    exact ⟨g, by omega, by omega, g1, g2, gf_ev_pos h, gf_ev_cop _⟩
  · obtain ⟨g, g0, g1, g2⟩ := gf_ev_cf (p := -N) (q := -D) (by omega)
    have p := gf_ev_pos (p := -N) (q := -D) (by omega)
    have e : gf_cf (-N) (-D) = gf_cf N D := by
      have := gf_cf_scale N D (k := -1) (by omega)
      rw [Int.neg_mul, Int.neg_mul, Int.one_mul, Int.one_mul] at this
      exact this
    rw [e] at g1 g2 p
    exact ⟨-g, by omega, by omega, by rw [Int.neg_mul]; omega, by rw [Int.neg_mul]; omega, p, gf_ev_cop _⟩
theorem gf_store {post : Int32 → SY → Prop} {len : Int32} {tops bots chn : Nat → Int32} {r : Nat} (hr : r < 4) {p q P Q : Int} (hp : gf_B p) (hq : gf_B q) (q0 : q ≠ 0) (hP : P = (gf_ev (gf_cf p q)).1) (hQ : Q = (gf_ev (gf_cf p q)).2) (h0 : ¬ gf_sm P Q → post 0 (len, tops, bots, chn)) (h1 : gf_sm P Q → post 1 (len, upd tops r (gf_i P), upd bots r (gf_i Q), chn)) : wpY_store post (len, tops, bots, chn) (nI r) (gf_l p) (gf_l q) := by
  obtain ⟨k, k0, kd, e1, e2, e3, e4⟩ := gf_norm (N := p) q0
  rw [← hP, ← hQ] at e4
  rw [← hP] at e1
  rw [← hQ] at e2 e3
  by_cases c : 0 < q
  · have w := (gf_le0 hq).mpr (by omega)
    refine br_t w (br_t w ?_)
    have z := gf_store32 (post := post) (len := len) (tops := tops) (bots := bots) (chn := chn) hr (k := k) (by omega) e3 e4 (by rw [← e1]; exact hp) (by rw [← e2]; exact hq) h0 h1
    rw [← e1, ← e2] at z
    exact z
  · have w : ¬ (0 : Int64) ≤ gf_l q := fun z => by have := (gf_le0 hq).mp z; omega
    refine br_f w (br_f w ?_)
    have r1 : (0 : Int64) - gf_l p = gf_l (-k * P) := by rw [gf_l0, gf_l_sub, e1]; congr 1; rw [Int.neg_mul]; omega
    have r2 : (0 : Int64) - gf_l q = gf_l (-k * Q) := by rw [gf_l0, gf_l_sub, e2]; congr 1; rw [Int.neg_mul]; omega
    rw [r1, r2]
    obtain ⟨p1, p2⟩ := hp
    obtain ⟨q1, q2⟩ := hq
    exact gf_store32 hr (by omega) e3 e4 ⟨by rw [Int.neg_mul]; omega, by rw [Int.neg_mul]; omega⟩ ⟨by rw [Int.neg_mul]; omega, by rw [Int.neg_mul]; omega⟩ h0 h1
/-! floor, expand -/
theorem gf_floorY {post : Int32 → Prop} {u : SY} {p q : Int} (hp : -1000000000 ≤ p) (hp2 : p ≤ 1000000000) (q0 : 0 < q) (hq : q ≤ 1000000000) (h : post (gf_i (p.fdiv q))) : wpY_floor post u (gf_i p) (gf_i q) := by
  obtain ⟨len, tops, bots, chn⟩ := u
  have Sp : gf_S p := ⟨by omega, by omega⟩
  have Sq : gf_S q := ⟨by omega, by omega⟩
  have c : gf_i p < 0 ↔ p < 0 := by rw [gf_i0]; exact gf_i_lt Sp gf_S0
  have n : ¬ gf_i q = 0 := fun z => by
    rw [gf_i0] at z
    have := (gf_i_eq Sq gf_S0).mp z
    omega
  refine ek_if c (fun z => And.intro n ?_) (fun z => And.intro n ?_)
  · rw [gf_i1, gf_i_sub, gf_i_sub, gf_i_div ⟨by omega, by omega⟩ Sq, gf_i_neg, gf_fl_y q0 z]
    exact h
  · rw [gf_i_div Sp Sq, ← gf_fl_b (by omega) ⟨fun _ => by omega, fun _ => by omega⟩]
    exact h
theorem gf_expand19 {post : SY → Prop} {tops bots : Nat → Int32} {L : List Int} (hl : L.length ≤ 19) (K : ∀ chn' : Nat → Int32, gf_at chn' 0 L → post (nI L.length, tops, bots, chn')) : ∀ (n : Nat) (p q : Int) (outs : List Int) (chn : Nat → Int32), q.natAbs < n → -9999 ≤ p → p ≤ 9999 → 0 ≤ q → q ≤ 9999 → L = outs ++ gf_cf p q → gf_at chn 0 outs → wY_expand_19 post n (gf_i p) (gf_i q) (nI outs.length) tops bots chn := by
  intro n
  induction n with
  | zero =>
    intro p q outs chn hn
    omega
  | succ n ih =>
    intro p q outs chn hn p1 p2 q1 q2 hL hat
    have hle : outs.length ≤ L.length := by rw [hL, List.length_append]; omega
    have c : gf_i q = 0 ↔ q = 0 := by rw [gf_i0]; exact gf_i_eq ⟨by omega, by omega⟩ gf_S0
    refine ek_if c (fun z => ?_) (fun z => br_f (nI_ge (b := 64) (by omega) (by omega)) (gf_floorY (by omega) (by omega) (by omega) (by omega) (And.intro (vp_in_nI (by omega) (by omega)) ?_)))
    · subst z
      rw [gf_cf_0, List.append_nil] at hL
      subst hL
      exact K chn hat
    · have f := gf_fd_p p (b := q) (by omega)
      rw [nI_clamp (by omega), nI_1, gf_i_mul, gf_i_sub]
      refine nm_e (nm_e (nm_e ?_))
      have k := ih q (p - p.fdiv q * q) (outs ++ [p.fdiv q]) (upd chn (0 + outs.length) (gf_i (p.fdiv q))) (by have := gf_cf_dec (p := p) z; omega) (by omega) (by omega) (by omega) (by omega) (by rw [hL, gf_cf_s z, List.append_assoc]; rfl) (gf_at_app hat)
      rw [List.length_append, List.length_singleton, Nat.zero_add] at k
      exact k
theorem gf_expand {post : SY → Prop} {len : Int32} {tops bots chn : Nat → Int32} {r : Nat} (hr : r < 4) {p q : Int} (ok : gf_ok p q) (ht : tops r = gf_i p) (hb : bots r = gf_i q) (K : ∀ chn' : Nat → Int32, gf_at chn' 0 (gf_cf p q) → post (nI (gf_cf p q).length, tops, bots, chn')) : wpY_expand post (len, tops, bots, chn) (nI r) := by
  obtain ⟨o1, o2, o3, o4, o5⟩ := ok
  have i := vp_in_nI (n := r) (N := 4) hr (by omega)
  refine And.intro i (nm_r (e' := gf_i p) (by rw [nI_clamp (by omega), ht]) (And.intro i (nm_r (e' := gf_i q) (by rw [nI_clamp (by omega), hb]) ⟨q.natAbs + 1, ?_⟩)))
  exact gf_expand19 (L := gf_cf p q) (gf_len (by omega) o4) K _ p q [] chn (by omega) o1 o2 (by omega) o4 rfl (fun k hk => absurd hk (Nat.not_lt_zero k))
theorem gf_termsY {post : Int32 → SY → Prop} {len : Int32} {tops bots chn : Nat → Int32} {r : Nat} (hr : r < 4) {p q : Int} (ok : gf_ok p q) (ht : tops r = gf_i p) (hb : bots r = gf_i q) (K : ∀ chn' : Nat → Int32, gf_at chn' 0 (gf_cf p q) → post (nI (gf_cf p q).length) (nI (gf_cf p q).length, tops, bots, chn')) : wpY_terms post (len, tops, bots, chn) (nI r) := by
  unfold wpY_terms
  exact gf_isY1 hr (br_f gf_ne10 (gf_expand hr ok ht hb K))
end
section
/-! the relation; keep and run from registers -/
def gf_reg (cnt chn : Nat → Int32) (r : Nat) (p q : Int) : Prop := cnt r = nI (gf_cf p q).length ∧ gf_at chn (24 * r) (gf_cf p q)
def gf_rel (cnt chn tops bots : Nat → Int32) : Prop := ∀ r, r < 4 → ∃ p q : Int, gf_ok p q ∧ tops r = gf_i p ∧ bots r = gf_i q ∧ gf_reg cnt chn r p q
def i_Rel (_ : Nat) (u : SX) (v : SY) : Prop := gf_rel u.2.2.2.1 u.2.2.2.2.1 v.2.1 v.2.2.1
theorem i_up {k : Nat} {u : SX} {v : SY} (h : i_Rel k u v) : i_Rel (k + 5) u v := h
def gf_upd (cnt0 chn0 cnt chn : Nat → Int32) (d : Nat) (L : List Int) : Prop := (∀ r, r < 4 → r ≠ d → cnt r = cnt0 r) ∧ (∀ x, x < 96 → (x < 24 * d ∨ 24 * d + 24 ≤ x) → chn x = chn0 x) ∧ cnt d = nI L.length ∧ gf_at chn (24 * d) L
theorem gf_ok_len {p q : Int} (h : gf_ok p q) : (gf_cf p q).length ≤ 19 := gf_len (by have := h.2.2.1; omega) h.2.2.2.1
theorem gf_ok_rng {p q : Int} (h : gf_ok p q) : ∀ x, x ∈ gf_cf p q → -9999 ≤ x ∧ x ≤ 9999 := gf_rng (by have := h.2.2.1; omega) h.1 h.2.1 h.2.2.2.1
theorem gf_ok_S {p q : Int} (h : gf_ok p q) : ∀ x, x ∈ gf_cf p q → gf_S x := fun x hx => by
  have := gf_ok_rng h x hx
  exact ⟨by omega, by omega⟩
theorem gf_ok_ne {p q : Int} (h : gf_ok p q) : gf_cf p q ≠ [] := fun z => by
  have := gf_cf_nil z
  have := h.2.2.1
  omega
theorem gf_ok_ev {p q : Int} (h : gf_ok p q) : gf_ev (gf_cf p q) = (p, q) := gf_ev_ok (by have := h.2.2.1; omega) h.2.2.2.2
theorem gf_rel_fr {cnt chn cnt' chn' tops bots : Nat → Int32} (h : gf_rel cnt chn tops bots) (f : gf_fr cnt chn cnt' chn') : gf_rel cnt' chn' tops bots := by
  intro r hr
  obtain ⟨p, q, ok, h1, h2, h3, h4⟩ := h r hr
  refine ⟨p, q, ok, h1, h2, by rw [f.1 r hr, h3], fun i hi => ?_⟩
  have := gf_ok_len ok
  rw [f.2 _ (by omega)]
  exact h4 i hi
theorem gf_rel_upd {cnt chn cnt' chn' tops bots : Nat → Int32} {d : Nat} {P Q : Int} {L : List Int} (h : gf_rel cnt chn tops bots) (f : gf_upd cnt chn cnt' chn' d L) (hd : d < 4) (ok : gf_ok P Q) (hL : L = gf_cf P Q) : gf_rel cnt' chn' (upd tops d (gf_i P)) (upd bots d (gf_i Q)) := by
  subst hL
  intro r hr
  by_cases c : r = d
  · subst c
    exact ⟨P, Q, ok, pk_us, pk_us, f.2.2.1, f.2.2.2⟩
  · obtain ⟨p, q, ok', h1, h2, h3, h4⟩ := h r hr
    refine ⟨p, q, ok', by rw [pk_un c, h1], by rw [pk_un c, h2], by rw [f.1 r hr c, h3], fun i hi => ?_⟩
    have := gf_ok_len ok'
    rw [f.2.1 _ (by omega) (by omega)]
    exact h4 i hi
theorem gf_tl_last : ∀ l : List Int, gf_tl l → l ≠ [] → 2 ≤ l.getD (l.length - 1) 0 := by
  intro l
  induction l with
  | nil => exact fun _ h => absurd rfl h
  | cons a l ih =>
    intro h _
    cases l with
    | nil => exact h.2.1 rfl
    | cons b l => exact ih h.2.2 (List.cons_ne_nil _ _)
theorem gf_last {N D : Int} (hD : D ≠ 0) : 2 ≤ (gf_cf N D).length → (gf_cf N D).getD ((gf_cf N D).length - 1) 0 ≠ 1 := by
  have key : ∀ p q : Int, 0 < q → 2 ≤ (gf_cf p q).length → (gf_cf p q).getD ((gf_cf p q).length - 1) 0 ≠ 1 := by
    intro p q hq
    obtain ⟨l, e, tl⟩ := gf_cf_tail (p := p) hq
    rw [e]
    intro h2
    cases l with
    | nil =>
      rw [List.length_singleton] at h2
      omega
    | cons b l =>
      have := gf_tl_last (b :: l) tl (List.cons_ne_nil _ _)
      show (b :: l).getD ((b :: l).length - 1) 0 ≠ 1
      omega
  by_cases c : 0 < D
  · exact key N D c
  · have e : gf_cf (-N) (-D) = gf_cf N D := by
      have := gf_cf_scale N D (k := -1) (by omega)
      rw [Int.neg_mul, Int.neg_mul, Int.one_mul, Int.one_mul] at this
      exact this
    rw [← e]
    exact key (-N) (-D) (by omega)
theorem gf_cf_norm {N D : Int} (hD : D ≠ 0) : gf_cf (gf_ev (gf_cf N D)).1 (gf_ev (gf_cf N D)).2 = gf_cf N D := by
  obtain ⟨k, k0, _, e1, e2, _⟩ := gf_norm (N := N) hD
  have s := gf_cf_scale (gf_ev (gf_cf N D)).1 (gf_ev (gf_cf N D)).2 k0
  rw [← e1, ← e2] at s
  exact s.symm
theorem gf_mulB {k x N : Int} (k0 : k ≠ 0) (e : N = k * x) (h : gf_B N) : gf_B x := by
  obtain ⟨h1, h2⟩ := h
  have a : (k * x).natAbs = k.natAbs * x.natAbs := Int.natAbs_mul k x
  have l : 1 * x.natAbs ≤ k.natAbs * x.natAbs := Nat.mul_le_mul_right _ (by omega)
  exact ⟨by omega, by omega⟩
theorem gf_sm_ok {N D P Q : Int} (hD : D ≠ 0) (hP : P = (gf_ev (gf_cf N D)).1) (hQ : Q = (gf_ev (gf_cf N D)).2) (s : gf_sm P Q) : gf_ok P Q ∧ gf_cf N D = gf_cf P Q := by
  obtain ⟨k, k0, _, e1, e2, e3, e4⟩ := gf_norm (N := N) hD
  have n := gf_cf_norm (N := N) hD
  rw [← hP, ← hQ] at e4 n
  rw [← hQ] at e3
  exact ⟨⟨s.1, s.2.1, by omega, s.2.2, e4⟩, n.symm⟩
section
variable {post : Int32 → SX → Prop} {ov : Int32} {vt vb : Int64} {cnt chn cnt0 chn0 : Nat → Int32} {tb : Nat → Int64}
theorem gf_copyd {post : SX → Prop} {d : Nat} (hd : d < 4) {C : List Int} (hC : C.length ≤ 22) (fr : gf_fr cnt0 chn0 cnt chn) (hat : gf_at chn 96 C) {m : Int32} (hm : m = nI C.length) (K : ∀ cnt' chn' : Nat → Int32, cnt' d = nI C.length → gf_upd cnt0 chn0 cnt' chn' d C → post (ov, vt, vb, cnt', chn', tb)) : wpX_copyChain post (ov, vt, vb, cnt, chn, tb) (nI d) 4 m := by
  refine gf_copy (to := d) (fr := 4) (m := C.length) (by omega) (by omega) (by omega) (by omega) hm fun chn' e1 e2 => K _ _ pk_us ⟨fun r hr hne => ?_, fun x hx ho => ?_, pk_us, fun i hi => ?_⟩
  · rw [pk_un hne]
    exact fr.1 r hr
  · rw [e2 x ho]
    exact fr.2 x hx
  · rw [e1 i hi]
    exact hat i hi
theorem gf_keep {N D P Q : Int} {d : Nat} (hd : d < 4) (D0 : D ≠ 0) (hN : gf_B N) (hD : gf_B D) (hP : P = (gf_ev (gf_cf N D)).1) (hQ : Q = (gf_ev (gf_cf N D)).2) (R : gf_Res cnt0 chn0 (gf_cf N D) ov cnt chn)
  (h0 : ¬ gf_sm P Q → ∀ (ov : Int32) (vt vb : Int64) (cnt' chn' : Nat → Int32) (tb : Nat → Int64), gf_fr cnt0 chn0 cnt' chn' → post (-1000002) (ov, vt, vb, cnt', chn', tb))
  (h1 : gf_sm P Q → ∀ (ov : Int32) (vt vb : Int64) (cnt' chn' : Nat → Int32) (tb : Nat → Int64), gf_upd cnt0 chn0 cnt' chn' d (gf_cf N D) → post (nI (gf_cf N D).length) (ov, vt, vb, cnt', chn', tb)) : wpX_keep post (ov, vt, vb, cnt, chn, tb) (nI d) := by
  obtain ⟨k, k0, _, e1, e2, e3, e4⟩ := gf_norm (N := N) D0
  obtain ⟨fr, R⟩ := R
  unfold wpX_keep
  rcases R with ⟨rfl, O⟩ | ⟨rfl, nf⟩
  · have BP : gf_B P := gf_mulB k0 (by rw [hP]; exact e1) hN
    have BQ : gf_B Q := gf_mulB k0 (by rw [hQ]; exact e2) hD
    have t1 : gf_l P < (-9999 : Int64) ↔ P < -9999 := by rw [gf_lm9]; exact gf_l_lt BP gf_Bm9
    have t2 : (9999 : Int64) < gf_l P ↔ 9999 < P := by rw [gf_l9]; exact gf_l_lt gf_B9 BP
    have t3 : gf_l Q ≤ (9999 : Int64) ↔ Q ≤ 9999 := by rw [gf_l9]; exact gf_l_le BQ gf_B9
    have hl := O.2.1.1
    refine br_t rfl (gf_eval (r := 4) (L := gf_cf N D) (by omega) (fun z => D0 (gf_cf_nil z)) (by omega) O.2.2 (fun x hx => by have := O.2.1.2 x hx; exact ⟨by omega, by omega⟩) O.1 ?_)
    rw [← hP, ← hQ]
    refine ek_if t1 (fun z => h0 (fun w => by have := w.1; omega) _ _ _ _ _ _ fr) fun z1 => ek_if t2 (fun z => h0 (fun w => by have := w.2.1; omega) _ _ _ _ _ _ fr) fun z2 => ek_if t3 (fun z3 => ?_) (fun z => h0 (fun w => by have := w.2.2; omega) _ _ _ _ _ _ fr)
    refine gf_copyd hd (C := gf_cf N D) hl fr O.2.2 O.1 fun cnt' chn' ec up => And.intro (vp_in_nI (by omega) (by omega)) ?_
    rw [nI_clamp (by omega), ec]
    exact h1 ⟨by omega, by omega, z3⟩ _ _ _ _ _ _ up
  · refine br_f gf_ne10 (h0 (fun s => ?_) _ _ _ _ _ _ fr)
    obtain ⟨ok, e⟩ := gf_sm_ok D0 hP hQ s
    rw [e] at nf
    exact nf (gf_ok_fit ok.1 ok.2.1 ok.2.2.1 ok.2.2.2.1)
theorem gf_runX {post : SX → Prop} {ra rb : Nat} (ha : ra < 4) (hb : rb < 4) {pa qa pb qb n1 n2 n3 n4 d1 d2 d3 d4 : Int} (oa : gf_ok pa qa) (ob : gf_ok pb qb) (ga : gf_reg cnt chn ra pa qa) (gb : gf_reg cnt chn rb pb qb) (T : gf_tab tb n1 n2 n3 n4 d1 d2 d3 d4) (hn : gf_cb n1 n2 n3 n4) (hd : gf_cb d1 d2 d3 d4) {N D : Int} (eN : N = gf_F n1 n2 n3 n4 pa qa pb qb) (eD : D = gf_F d1 d2 d3 d4 pa qa pb qb) (D0 : D ≠ 0) (K : ∀ (ov : Int32) (vt vb : Int64) (cnt' chn' : Nat → Int32) (tb : Nat → Int64), gf_Res cnt chn (gf_cf N D) ov cnt' chn' → post (ov, vt, vb, cnt', chn', tb)) : wpX_run post (ov, vt, vb, cnt, chn, tb) (nI ra) (nI rb) := by
  refine nm_r (congrArg (upd cnt 4) gf_b0) ⟨((gf_cf pa qa).length + 1) + ((gf_cf pb qb).length + 1) + 1, ?_⟩
  have H : gf_Hy cnt chn (gf_cf pa qa) (gf_cf pb qb) qa qb n1 n2 n3 n4 d1 d2 d3 d4 (gf_cf N D) ra rb :=
    ⟨⟨ha, hb⟩, ⟨ga.1, gf_ok_len oa, ga.2, gf_ok_S oa⟩, ⟨gb.1, gf_ok_len ob, gb.2, gf_ok_S ob⟩, ⟨hn, hd, oa.2.2.2.1, ob.2.2.2.1⟩, gf_last D0⟩
  refine gf_r17 H K _ _ 0 0 0 vt vb _ chn tb (Nat.lt_succ_self _) rfl (by omega) (by omega) ⟨⟨fun r hr => pk_un (by omega), fun _ _ => rfl⟩, Or.inl ⟨rfl, [], n1, n2, n3, n4, d1, d2, d3, d4, T, ?_, ⟨pk_us, ⟨by decide, fun x hx => absurd hx List.not_mem_nil⟩, fun i hi => absurd hi (Nat.not_lt_zero i)⟩⟩⟩
  refine ⟨1, 0, 0, 1, pa, qa, 1, 0, 0, 1, pb, qb, ⟨rfl, by omega, Or.inl ⟨rfl, rfl, rfl, rfl, rfl, by have := oa.2.2.1; omega, oa.1, oa.2.1⟩⟩, ⟨rfl, by omega, Or.inl ⟨rfl, rfl, rfl, rfl, rfl, by have := ob.2.2.1; omega, ob.1, ob.2.1⟩⟩, Or.inl ⟨rfl, ?_⟩, by rw [eN, eD]; rfl⟩
  unfold gf_pre gf_F
  refine ⟨by omega, by omega, by omega, by omega, by omega, by omega, by omega, by omega⟩
end
end
section
/-! the constructors, set, top, bottom, terms, term -/
theorem gf_initX {post : SX → Prop} {ov : Int32} {vt vb : Int64} {chn : Nat → Int32} {tb : Nat → Int64} (K : ∀ cnt' : Nat → Int32, (∀ r, r < 5 → cnt' r = nI 1) → post (ov, vt, vb, cnt', chn, tb)) : ∀ (d k n : Nat) (cnt : Nat → Int32), k + d = 5 → d < n → (∀ r, r < k → cnt r = nI 1) → wX_init_29 post ov vt vb n (nI k) cnt chn tb := by
  intro d
  induction d with
  | zero =>
    intro k n cnt hk hn h
    obtain ⟨n, rfl⟩ : ∃ m, n = m + 1 := ⟨n - 1, by omega⟩
    have : k = 5 := by omega
    subst this
    exact br_t (by decide) (K cnt h)
  | succ d ih =>
    intro k n cnt hk hn h
    obtain ⟨n, rfl⟩ : ∃ m, n = m + 1 := ⟨n - 1, by omega⟩
    refine br_f (nI_ge (b := 5) (by omega) (by omega)) (And.intro (vp_in_nI (by omega) (by omega)) (nm_r (e' := upd cnt k (nI 1)) ?_ (nm_r (nI_1 k) (ih (k + 1) n _ (by omega) (by omega) ?_))))
    · rw [nI_clamp (by omega), gf_b1]
    · intro r hr
      by_cases c : r = k
      · subst c
        exact pk_us
      · rw [pk_un c]
        exact h r (by omega)
theorem gf_initY {post : SY → Prop} {len : Int32} {tops chn : Nat → Int32} (K : ∀ bots' : Nat → Int32, (∀ r, r < 4 → bots' r = 1) → post (len, tops, bots', chn)) : ∀ (d k n : Nat) (bots : Nat → Int32), k + d = 4 → d < n → (∀ r, r < k → bots r = 1) → wY_init_28 post len n (nI k) tops bots chn := by
  intro d
  induction d with
  | zero =>
    intro k n cnt hk hn h
    obtain ⟨n, rfl⟩ : ∃ m, n = m + 1 := ⟨n - 1, by omega⟩
    have : k = 4 := by omega
    subst this
    exact br_t (by decide) (K cnt h)
  | succ d ih =>
    intro k n cnt hk hn h
    obtain ⟨n, rfl⟩ : ∃ m, n = m + 1 := ⟨n - 1, by omega⟩
    refine br_f (nI_ge (b := 4) (by omega) (by omega)) (And.intro (vp_in_nI (by omega) (by omega)) (nm_r (e' := upd cnt k 1) ?_ (nm_r (nI_1 k) (ih (k + 1) n _ (by omega) (by omega) ?_))))
    · rw [nI_clamp (by omega)]
    · intro r hr
      by_cases c : r = k
      · subst c
        exact pk_us
      · rw [pk_un c]
        exact h r (by omega)
theorem gf_cf01 : gf_cf 0 1 = [0] := by
  rw [gf_cf_w (w := 0) (r := 0) (by omega) (gf_fd_pos (by omega) (by omega) (by omega)) (by omega), gf_cf_0]
theorem i_vc0 : wpX_init (fun u => wpY_init (fun v => i_Rel 0 u v)) := by
  refine ⟨6, gf_initX (fun cnt hc => ?_) 5 0 6 _ (by omega) (by omega) (fun r hr => absurd hr (Nat.not_lt_zero r))⟩
  refine ⟨5, gf_initY (fun bots hb => ?_) 4 0 5 _ (by omega) (by omega) (fun r hr => absurd hr (Nat.not_lt_zero r))⟩
  intro r hr
  refine ⟨0, 1, ⟨by omega, by omega, by omega, by omega, by decide⟩, show (0 : Int32) = gf_i 0 by decide, ?_, ?_, ?_⟩
  · show bots r = _
    rw [hb r hr]
    decide
  · show cnt r = _
    rw [hc r (by omega), gf_cf01]
    rfl
  · intro i hi
    rw [gf_cf01] at hi ⊢
    have : i = 0 := by
      rw [List.length_singleton] at hi
      omega
    subst this
    show (0 : Int32) = gf_i 0
    decide
/-! set -/
def gf_gd (p q : Int) : Prop := -9999 ≤ p ∧ p ≤ 9999 ∧ 1 ≤ q ∧ q ≤ 9999
theorem gf_upd_app {cnt0 chn0 cnt chn : Nat → Int32} {r : Nat} {outs : List Int} {w : Int} (hr : r < 4) (h : gf_upd cnt0 chn0 cnt chn r outs) (hl : outs.length < 24) : gf_upd cnt0 chn0 (upd cnt r (nI (outs.length + 1))) (upd chn (24 * r + outs.length) (gf_i w)) r (outs ++ [w]) := by
  refine ⟨fun s hs hne => ?_, fun x hx ho => ?_, ?_, gf_at_app h.2.2.2⟩
  · rw [pk_un hne]
    exact h.1 s hs hne
  · rw [pk_un (by omega)]
    exact h.2.1 x hx ho
  · rw [pk_us, List.length_append, List.length_singleton]
theorem gf_set51 {post : Int32 → SX → Prop} {ov : Int32} {vt vb : Int64} {tb : Nat → Int64} {cnt0 chn0 : Nat → Int32} {r : Nat} (hr : r < 4) {L : List Int} (hl : L.length ≤ 19) (K : ∀ cnt chn : Nat → Int32, gf_upd cnt0 chn0 cnt chn r L → post 1 (ov, vt, vb, cnt, chn, tb)) : ∀ (n : Nat) (p q : Int) (outs : List Int) (cnt chn : Nat → Int32), q.natAbs < n → -9999 ≤ p → p ≤ 9999 → 0 ≤ q → q ≤ 9999 → L = outs ++ gf_cf p q → gf_upd cnt0 chn0 cnt chn r outs → wX_set_51 post (nI r) ov vt vb n (gf_l p) (gf_l q) cnt chn tb := by
  intro n
  induction n with
  | zero =>
    intro p q outs cnt chn hn
    omega
  | succ n ih =>
    intro p q outs cnt chn hn p1 p2 q1 q2 hL hU
    have Bp : gf_B p := ⟨by omega, by omega⟩
    have Bq : gf_B q := ⟨by omega, by omega⟩
    have hle : outs.length ≤ L.length := by rw [hL, List.length_append]; omega
    have i5 : vp_in (nI r) 5 := vp_in_nI (by omega) (by omega)
    refine ek_if (gf_eq0 Bq) (fun z => ?_) (fun z => gf_floored Bp Bq z (And.intro i5 ?_))
    · subst z
      rw [gf_cf_0, List.append_nil] at hL
      subst hL
      exact K cnt chn hU
    · have f := gf_fd_p p (b := q) (by omega)
      rw [nI_clamp (by omega), hU.2.2.1, gf_ix, nI_clamp (by omega), gf_l_i, nI_1, gf_by (by omega), gf_l_mul, gf_l_sub]
      refine And.intro (vp_in_nI (by omega) (by omega)) (nm_e (And.intro i5 (And.intro i5 (nm_e (nm_e ?_)))))
      exact ih q _ (outs ++ [p.fdiv q]) _ _ (by have := gf_cf_dec (p := p) z; omega) (by omega) (by omega) (by omega) (by omega) (by rw [hL, gf_cf_s z, List.append_assoc]; rfl) (gf_upd_app hr hU (by omega))
theorem gf_lt9 (x : Int32) : x < (-9999 : Int32) ↔ x.toInt < -9999 := by
  rw [Int32.lt_iff_toInt_lt, show (-9999 : Int32).toInt = -9999 by decide]
theorem gf_gt9 (x : Int32) : (9999 : Int32) < x ↔ 9999 < x.toInt := by
  rw [Int32.lt_iff_toInt_lt, show (9999 : Int32).toInt = 9999 by decide]
theorem gf_le9 (x : Int32) : x ≤ (9999 : Int32) ↔ x.toInt ≤ 9999 := by
  rw [Int32.le_iff_toInt_le, show (9999 : Int32).toInt = 9999 by decide]
theorem gf_lt1 (x : Int32) : x < (1 : Int32) ↔ x.toInt < 1 := by
  rw [Int32.lt_iff_toInt_lt, show (1 : Int32).toInt = 1 by decide]
theorem gf_toL (x : Int32) : x.toInt64 = gf_l x.toInt := (Int64.ofInt_int32ToInt x).symm
theorem gf_setX {post : Int32 → SX → Prop} {ov : Int32} {vt vb : Int64} {cnt chn : Nat → Int32} {tb : Nat → Int64} {r : Nat} (hr : r < 4) {v2 v3 : Int32} (h0 : ¬ gf_gd v2.toInt v3.toInt → post 0 (ov, vt, vb, cnt, chn, tb)) (h1 : gf_gd v2.toInt v3.toInt → ∀ cnt' chn' : Nat → Int32, gf_upd cnt chn cnt' chn' r (gf_cf v2.toInt v3.toInt) → post 1 (ov, vt, vb, cnt', chn', tb)) : wpX_set post (ov, vt, vb, cnt, chn, tb) (nI r) v2 v3 := by
  unfold wpX_set
  refine gf_isX1 hr (br_f gf_ne10 (ek_if (gf_lt9 v2) (fun z => h0 fun w => by have := w.1; omega) fun z1 => ek_if (gf_gt9 v2) (fun z => h0 fun w => by have := w.2.1; omega) fun z2 => ek_if (gf_lt1 v3) (fun z => h0 fun w => by have := w.2.2.1; omega) fun z3 => ek_if (gf_le9 v3) (fun z4 => And.intro (vp_in_nI (by omega) (by omega)) ?_) fun z => h0 fun w => by have := w.2.2.2; omega))
  have g : gf_gd v2.toInt v3.toInt := ⟨by omega, by omega, by omega, z4⟩
  rw [nI_clamp (by omega), gf_b0, gf_toL, gf_toL]
  refine nm_e ⟨v3.toInt.natAbs + 1, gf_set51 hr (gf_len (by omega) z4) (h1 g) _ _ _ [] _ _ (by omega) g.1 g.2.1 (by omega) z4 rfl ⟨fun s hs hne => pk_un hne, fun _ _ _ => rfl, pk_us, fun i hi => absurd hi (Nat.not_lt_zero i)⟩⟩
theorem gf_setX0 {post : Int32 → SX → Prop} {u : SX} {v1 v2 v3 : Int32} (hr : ¬ gf_rg v1) (h0 : post 0 u) : wpX_set post u v1 v2 v3 := by
  obtain ⟨ov, vt, vb, cnt, chn, tb⟩ := u
  unfold wpX_set
  exact gf_isX0 hr (br_t rfl h0)
theorem gf_setY0 {post : Int32 → SY → Prop} {u : SY} {v1 v2 v3 : Int32} (hr : ¬ gf_rg v1) (h0 : post 0 u) : wpY_set post u v1 v2 v3 := by
  obtain ⟨len, tops, bots, chn⟩ := u
  unfold wpY_set
  exact gf_isY0 hr (br_t rfl h0)
theorem gf_sm_of {p q : Int} (h : gf_gd p q) : gf_sm (gf_ev (gf_cf p q)).1 (gf_ev (gf_cf p q)).2 := by
  obtain ⟨h1, h2, h3, h4⟩ := h
  obtain ⟨g, g0, g1, g2⟩ := gf_ev_cf (p := p) (q := q) (by omega)
  have g3 := gf_ev_pos (p := p) (q := q) (by omega)
  generalize gf_ev (gf_cf p q) = z at *
  have a : (g * z.1).natAbs = g.natAbs * z.1.natAbs := Int.natAbs_mul g z.1
  have l : 1 * z.1.natAbs ≤ g.natAbs * z.1.natAbs := Nat.mul_le_mul_right _ (by omega)
  have m : 1 * z.2 ≤ g * z.2 := Int.mul_le_mul_of_nonneg_right (by omega) (by omega)
  exact ⟨by omega, by omega, by omega⟩
theorem gf_setY {post : Int32 → SY → Prop} {len : Int32} {tops bots chn : Nat → Int32} {r : Nat} (hr : r < 4) {v2 v3 : Int32} (h0 : ¬ gf_gd v2.toInt v3.toInt → post 0 (len, tops, bots, chn)) (h1 : gf_gd v2.toInt v3.toInt → post 1 (len, upd tops r (gf_i (gf_ev (gf_cf v2.toInt v3.toInt)).1), upd bots r (gf_i (gf_ev (gf_cf v2.toInt v3.toInt)).2), chn)) : wpY_set post (len, tops, bots, chn) (nI r) v2 v3 := by
  unfold wpY_set
  refine gf_isY1 hr (br_f gf_ne10 (ek_if (gf_lt9 v2) (fun z => h0 fun w => by have := w.1; omega) fun z1 => ek_if (gf_gt9 v2) (fun z => h0 fun w => by have := w.2.1; omega) fun z2 => ek_if (gf_lt1 v3) (fun z => h0 fun w => by have := w.2.2.1; omega) fun z3 => ek_if (gf_le9 v3) (fun z4 => ?_) fun z => h0 fun w => by have := w.2.2.2; omega))
  have g : gf_gd v2.toInt v3.toInt := ⟨by omega, by omega, by omega, z4⟩
  rw [gf_toL, gf_toL]
  refine gf_store hr ⟨by omega, by omega⟩ ⟨by omega, by omega⟩ (by omega) rfl rfl (fun z => absurd (gf_sm_of g) z) (fun _ => And.intro narrow_b1 (h1 g))
theorem i_vc_set {k : Nat} {u : SX} {v : SY} (I : i_Rel k u v) (hk : k + 5 ≤ 2560) (v1 : Int32) (v2 : Int32) (v3 : Int32) : wpX_set (fun r u' => wpY_set (fun r' v' => r' = r ∧ i_Rel (k + 5) u' v') v v1 v2 v3) u v1 v2 v3 := by
  by_cases hr : gf_rg v1
  · obtain ⟨r, hr, rfl⟩ := hr
    obtain ⟨ov, vt, vb, cnt, chn, tb⟩ := u
    obtain ⟨len, tops, bots, yc⟩ := v
    refine gf_setX hr (fun ng => gf_setY hr (fun _ => ⟨rfl, I⟩) (fun g => absurd g ng)) (fun g cnt' chn' up => gf_setY hr (fun ng => absurd g ng) (fun _ => ⟨rfl, ?_⟩))
    have q0 : v3.toInt ≠ 0 := by have := g.2.2.1; omega
    obtain ⟨ok, e⟩ := gf_sm_ok (N := v2.toInt) q0 rfl rfl (gf_sm_of g)
    exact gf_rel_upd I up hr ok e
  · exact gf_setX0 hr (gf_setY0 hr ⟨rfl, I⟩)
/-! top, bottom, terms, term -/
theorem i_vc_top {k : Nat} {u : SX} {v : SY} (I : i_Rel k u v) (hk : k + 5 ≤ 2560) (v1 : Int32) : wpX_top (fun r u' => wpY_top (fun r' => r' = r ∧ i_Rel (k + 5) u' v) v v1) u v1 := by
  obtain ⟨ov, vt, vb, cnt, chn, tb⟩ := u
  obtain ⟨len, tops, bots, yc⟩ := v
  unfold wpX_top wpY_top
  by_cases hr : gf_rg v1
  · obtain ⟨r, hr, rfl⟩ := hr
    obtain ⟨p, q, ok, t1, t2, g1, g2⟩ := I r hr
    refine gf_isX1 hr (br_f gf_ne10 (And.intro (vp_in_nI (by omega) (by omega)) ?_))
    refine gf_eval (L := gf_cf p q) (by omega) (gf_ok_ne ok) (by have := gf_ok_len ok; omega) g2 (gf_ok_S ok) (by rw [nI_clamp (by omega)]; exact g1) ?_
    refine gf_isY1 hr (br_f gf_ne10 (And.intro (vp_in_nI (by omega) (by omega)) (And.intro ?_ I)))
    rw [nI_clamp (by omega), gf_l_i, gf_ok_ev ok]
    exact t1
  · exact gf_isX0 hr (br_t rfl (gf_isY0 hr (br_t rfl ⟨rfl, I⟩)))
theorem i_vc_bottom {k : Nat} {u : SX} {v : SY} (I : i_Rel k u v) (hk : k + 5 ≤ 2560) (v1 : Int32) : wpX_bottom (fun r u' => wpY_bottom (fun r' => r' = r ∧ i_Rel (k + 5) u' v) v v1) u v1 := by
  obtain ⟨ov, vt, vb, cnt, chn, tb⟩ := u
  obtain ⟨len, tops, bots, yc⟩ := v
  unfold wpX_bottom wpY_bottom
  by_cases hr : gf_rg v1
  · obtain ⟨r, hr, rfl⟩ := hr
    obtain ⟨p, q, ok, t1, t2, g1, g2⟩ := I r hr
    refine gf_isX1 hr (br_f gf_ne10 (And.intro (vp_in_nI (by omega) (by omega)) ?_))
    refine gf_eval (L := gf_cf p q) (by omega) (gf_ok_ne ok) (by have := gf_ok_len ok; omega) g2 (gf_ok_S ok) (by rw [nI_clamp (by omega)]; exact g1) ?_
    refine gf_isY1 hr (br_f gf_ne10 (And.intro (vp_in_nI (by omega) (by omega)) (And.intro ?_ I)))
    rw [nI_clamp (by omega), gf_l_i, gf_ok_ev ok]
    exact t2
  · exact gf_isX0 hr (br_t rfl (gf_isY0 hr (br_t rfl ⟨rfl, I⟩)))
theorem i_vc_terms {k : Nat} {u : SX} {v : SY} (I : i_Rel k u v) (hk : k + 5 ≤ 2560) (v1 : Int32) : wpX_terms (fun r => wpY_terms (fun r' v' => r' = r ∧ i_Rel (k + 5) u v') v v1) u v1 := by
  obtain ⟨ov, vt, vb, cnt, chn, tb⟩ := u
  obtain ⟨len, tops, bots, yc⟩ := v
  unfold wpX_terms
  by_cases hr : gf_rg v1
  · obtain ⟨r, hr, rfl⟩ := hr
    obtain ⟨p, q, ok, t1, t2, g1, g2⟩ := I r hr
    refine gf_isX1 hr (br_f gf_ne10 (And.intro (vp_in_nI (by omega) (by omega)) ?_))
    rw [nI_clamp (by omega)]
    exact gf_termsY hr ok t1 t2 (fun chn' _ => ⟨g1.symm, I⟩)
  · unfold wpY_terms
    exact gf_isX0 hr (br_t rfl (gf_isY0 hr (br_t rfl ⟨rfl, I⟩)))
theorem i_vc_term {k : Nat} {u : SX} {v : SY} (I : i_Rel k u v) (hk : k + 5 ≤ 2560) (v1 : Int32) (v2 : Int32) : wpX_term (fun r => wpY_term (fun r' v' => r' = r ∧ i_Rel (k + 5) u v') v v1 v2) u v1 v2 := by
  obtain ⟨ov, vt, vb, cnt, chn, tb⟩ := u
  obtain ⟨len, tops, bots, yc⟩ := v
  unfold wpX_term wpY_term
  by_cases hr : gf_rg v1
  · obtain ⟨r, hr, rfl⟩ := hr
    obtain ⟨p, q, ok, t1, t2, g1, g2⟩ := I r hr
    have hl := gf_ok_len ok
    refine gf_isX1 hr (br_f gf_ne10 ?_)
    by_cases n0 : v2 < 0
    · exact br_t n0 (gf_isY1 hr (br_f gf_ne10 (gf_expand hr ok t1 t2 fun chn' _ => br_t n0 ⟨rfl, I⟩)))
    · refine br_f n0 (And.intro (vp_in_nI (by omega) (by omega)) ?_)
      obtain ⟨j, hj, rfl⟩ := nI_of n0
      rw [nI_clamp (by omega), show cnt r = nI (gf_cf p q).length from g1]
      refine pk_lt j (gf_cf p q).length (fun z => And.intro ?_ ?_) (fun z => ?_)
      · rw [gf_ix]
        exact vp_in_nI (by omega) (by omega)
      · rw [gf_cl r j (by omega), show chn (24 * r + j) = gf_i ((gf_cf p q).getD j 0) from g2 j z]
        refine gf_isY1 hr (br_f gf_ne10 (gf_expand hr ok t1 t2 fun chn' at' => br_f n0 (br_f (nI_ge z (by omega)) (And.intro (vp_in_nI (by omega) (by omega)) (And.intro ?_ I)))))
        rw [nI_clamp hj, ← at' j z, Nat.zero_add]
      · exact gf_isY1 hr (br_f gf_ne10 (gf_expand hr ok t1 t2 fun chn' _ => br_f n0 (br_t (nI_le z hj) ⟨rfl, I⟩)))
  · exact gf_isX0 hr (br_t rfl (gf_isY0 hr (br_t rfl ⟨rfl, I⟩)))
end
section
/-! compare -/
def gf_sgn (x : Int) : Int32 := if x < 0 then -1 else if 0 < x then 1 else 0
theorem gf_sgn_n {x : Int} (h : x < 0) : gf_sgn x = -1 := if_pos h
theorem gf_sgn_p {x : Int} (h : 0 < x) : gf_sgn x = 1 := by
  unfold gf_sgn
  rw [if_neg (by omega), if_pos h]
theorem gf_sgn_0 {x : Int} (h : x = 0) : gf_sgn x = 0 := by
  unfold gf_sgn
  rw [if_neg (by omega), if_neg (by omega)]
theorem gf_and1 {i : Nat} (hi : i < 100) : nI i &&& 1 = 0 ↔ i % 2 = 0 := by
  have e : nI i &&& 1 = nI (i % 2 ^ 1) := pk_andN (by omega) 1 (by decide)
  rw [e, Nat.pow_one]
  exact nI_eq (a := i % 2) (b := 0) (by omega) (by omega)
section
variable {post J : Int32 → Prop} {x1 x2 : Int32} {ov : Int32} {vt vb : Int64} {cnt chn : Nat → Int32} {tb : Nat → Int64}
theorem gf_cmp147n {i : Nat} {X c : Int} (hi : i < 100) (p0 : i % 2 = 0 → c = X) (p1 : i % 2 = 1 → c = -X) (hc : c < 0) (h : post (gf_sgn X)) : wX_compare_147 post (nI i) 1 ov vt vb cnt chn tb := by
  refine ek_if (gf_and1 hi) (fun z => br_t rfl ?_) (fun z => br_f gf_ne10 ?_)
  · rw [gf_sgn_n (by have := p0 z; omega)] at h
    exact h
  · rw [gf_sgn_p (by have := p1 (by omega); omega)] at h
    exact h
theorem gf_cmp147p {i : Nat} {X c : Int} (hi : i < 100) (p0 : i % 2 = 0 → c = X) (p1 : i % 2 = 1 → c = -X) (hc : 0 < c) (h : post (gf_sgn X)) : wX_compare_147 post (nI i) 0 ov vt vb cnt chn tb := by
  refine ek_if (gf_and1 hi) (fun z => br_f gf_ne01 ?_) (fun z => br_t rfl ?_)
  · rw [gf_sgn_p (by have := p0 z; omega)] at h
    exact h
  · rw [gf_sgn_n (by have := p1 (by omega); omega)] at h
    exact h
theorem gf_cmp121 {i : Nat} {X c x y : Int} (hi : i < 100) (p0 : i % 2 = 0 → c = X) (p1 : i % 2 = 1 → c = -X) (hx : gf_B x) (hy : gf_B y) (hlt : x < y → c < 0) (hgt : y < x → 0 < c) (heq : x = y → J (nI (i + 1))) (h : post (gf_sgn X)) : wX_compare_121 post J x1 x2 (nI i) (gf_l x) (gf_l y) ov vt vb cnt chn tb := by
  refine ek_if (gf_l_eq hx hy) (fun z => nm_r (nI_1 i) (heq z)) (fun z => ek_if (gf_l_le hy hx) (fun w => gf_cmp147p hi p0 p1 (hgt (by omega)) h) (fun w => gf_cmp147n hi p0 p1 (hlt (by omega)) h))
end
theorem gf_crs {p q p' q' w w' : Int} (hq : 0 < q) (hq' : 0 < q') (h1 : p < w * q + q) (h2 : w' * q' ≤ p') (h : w < w') : p * q' - p' * q < 0 := by
  have a1 : p * q' < (w * q + q) * q' := Int.mul_lt_mul_of_pos_right h1 hq'
  have a2 : (w' * q') * q ≤ p' * q := Int.mul_le_mul_of_nonneg_right h2 (by omega)
  have a3 : (w + 1) * (q * q') ≤ w' * (q * q') := Int.mul_le_mul_of_nonneg_right (by omega) (Int.mul_nonneg (by omega) (by omega))
  have e1 : (w * q + q) * q' = (w + 1) * (q * q') := by grind
  have e2 : (w' * q') * q = w' * (q * q') := by grind
  omega
section
variable {post : Int32 → Prop} {ov : Int32} {vt vb : Int64} {cnt chn : Nat → Int32} {tb : Nat → Int64} {ra rb : Nat} {La Lb : List Int}
theorem gf_cmp_s (ha : ra < 4) (hb : rb < 4) (ca : cnt ra = nI La.length) (cb : cnt rb = nI Lb.length) (la : La.length ≤ 19) (lb : Lb.length ≤ 19) (aa : gf_at chn (24 * ra) La) (ab : gf_at chn (24 * rb) Lb) (sa : ∀ x, x ∈ La → -9999 ≤ x ∧ x ≤ 9999) (sb : ∀ x, x ∈ Lb → -9999 ≤ x ∧ x ≤ 9999)
  {X : Int} (h : post (gf_sgn X)) {i n : Nat} {p q p' q' : Int} (hi : i ≤ 20) (d1 : La.drop i = gf_cf p q) (d2 : Lb.drop i = gf_cf p' q') (q0 : 0 < q ∨ (q = 0 ∧ 0 < p)) (q0' : 0 < q' ∨ (q' = 0 ∧ 0 < p')) (p0 : i % 2 = 0 → p * q' - p' * q = X) (p1 : i % 2 = 1 → p * q' - p' * q = -X)
  (cont : 0 < q → 0 < q' → p.fdiv q = p'.fdiv q' → wX_compare_21 post (nI ra) (nI rb) ov vt vb cnt chn tb n (nI (i + 1))) : wX_compare_21 post (nI ra) (nI rb) ov vt vb cnt chn tb (n + 1) (nI i) := by
  have ea : cnt (nI ra).toNatClampNeg = nI La.length := by rw [nI_clamp (by omega), ca]
  have eb : cnt (nI rb).toNatClampNeg = nI Lb.length := by rw [nI_clamp (by omega), cb]
  have va : vp_in (nI ra) 5 := vp_in_nI (by omega) (by omega)
  have vb' : vp_in (nI rb) 5 := vp_in_nI (by omega) (by omega)
  have e5 : (100000 : Int64) = gf_l 100000 := by decide
  have B5 : gf_B 100000 := ⟨by omega, by omega⟩
  have enda : q = 0 → ¬ nI i < nI La.length := fun z => by
    subst z
    rw [gf_cf_0] at d1
    exact nI_nlt (List.drop_eq_nil_iff.mp d1) (by omega)
  have endb : q' = 0 → ¬ nI i < nI Lb.length := fun z => by
    subst z
    rw [gf_cf_0] at d2
    exact nI_nlt (List.drop_eq_nil_iff.mp d2) (by omega)
  have ina : 0 < q → i < La.length ∧ La.getD i 0 = p.fdiv q := fun z => by
    rw [gf_cf_s (by omega)] at d1
    obtain ⟨k1, k2, _⟩ := gf_drop_cons _ _ _ _ d1
    exact ⟨k1, k2⟩
  have inb : 0 < q' → i < Lb.length ∧ Lb.getD i 0 = p'.fdiv q' := fun z => by
    rw [gf_cf_s (by omega)] at d2
    obtain ⟨k1, k2, _⟩ := gf_drop_cons _ _ _ _ d2
    exact ⟨k1, k2⟩
  refine br_f (nI_ge (b := 24) (by omega) (by omega)) (And.intro va ?_)
  rw [ea]
  rcases q0 with q0 | ⟨q0, pp⟩
  · obtain ⟨i1, g1⟩ := ina q0
    have r1 := sa _ (gf_getD_mem i1)
    rw [g1] at r1
    have t1 : (chn ((24 : Int32) * nI ra + nI i).toNatClampNeg).toInt64 = gf_l (p.fdiv q) := by
      rw [gf_cl ra i (by omega), aa i i1, g1, gf_i_l ⟨by omega, by omega⟩]
    have B1 : gf_B (p.fdiv q) := ⟨by omega, by omega⟩
    have v1 : vp_in ((24 : Int32) * nI ra + nI i) 120 := by
      rw [gf_ix]
      exact vp_in_nI (by omega) (by omega)
    refine br_t (nI_lt i1 (by omega)) (And.intro vb' ?_)
    rw [eb]
    rcases q0' with q0' | ⟨q0', pp'⟩
    · obtain ⟨i2, g2⟩ := inb q0'
      have r2 := sb _ (gf_getD_mem i2)
      rw [g2] at r2
      have t2 : (chn ((24 : Int32) * nI rb + nI i).toNatClampNeg).toInt64 = gf_l (p'.fdiv q') := by
        rw [gf_cl rb i (by omega), ab i i2, g2, gf_i_l ⟨by omega, by omega⟩]
      have B2 : gf_B (p'.fdiv q') := ⟨by omega, by omega⟩
      have v2 : vp_in ((24 : Int32) * nI rb + nI i) 120 := by
        rw [gf_ix]
        exact vp_in_nI (by omega) (by omega)
      have f1 := gf_fd_p p q0
      have f2 := gf_fd_p p' q0'
      refine br_t (nI_lt i2 (by omega)) (br_t rfl (br_t rfl (And.intro v1 (br_t rfl (And.intro v2 ?_)))))
      rw [t1, t2]
      refine gf_cmp121 (c := p * q' - p' * q) (by omega) p0 p1 B1 B2 (fun z => gf_crs q0 q0' f1.2 f2.1 z) (fun z => ?_) (fun z => cont q0 q0' z) h
      have := gf_crs q0' q0 f2.2 f1.1 z
      omega
    · refine br_f (endb q0') (br_t rfl (br_t rfl (And.intro v1 (br_f gf_ne10 ?_))))
      rw [t1, e5]
      refine gf_cmp121 (c := p * q' - p' * q) (by omega) p0 p1 B1 B5 (fun z => ?_) (fun z => by omega) (fun z => by omega) h
      subst q0'
      have := Int.mul_pos pp' q0
      rw [Int.mul_zero]
      omega
  · refine br_f (enda q0) (And.intro vb' ?_)
    rw [eb]
    rcases q0' with q0' | ⟨q0', pp'⟩
    · obtain ⟨i2, g2⟩ := inb q0'
      have r2 := sb _ (gf_getD_mem i2)
      rw [g2] at r2
      have t2 : (chn ((24 : Int32) * nI rb + nI i).toNatClampNeg).toInt64 = gf_l (p'.fdiv q') := by
        rw [gf_cl rb i (by omega), ab i i2, g2, gf_i_l ⟨by omega, by omega⟩]
      have B2 : gf_B (p'.fdiv q') := ⟨by omega, by omega⟩
      have v2 : vp_in ((24 : Int32) * nI rb + nI i) 120 := by
        rw [gf_ix]
        exact vp_in_nI (by omega) (by omega)
      refine br_t (nI_lt i2 (by omega)) (br_f gf_ne10 (br_t rfl (br_f gf_ne10 (br_t rfl (And.intro v2 ?_)))))
      rw [t2, e5]
      refine gf_cmp121 (c := p * q' - p' * q) (by omega) p0 p1 B5 B2 (fun z => by omega) (fun z => ?_) (fun z => by omega) h
      subst q0
      have := Int.mul_pos pp q0'
      rw [Int.mul_zero]
      omega
    · refine br_f (endb q0') (br_f gf_ne10 (br_f gf_ne10 ?_))
      subst q0 q0'
      rw [Int.mul_zero, Int.mul_zero] at p0 p1
      rw [gf_sgn_0 (by omega)] at h
      exact h
theorem gf_cmp_l (ha : ra < 4) (hb : rb < 4) (ca : cnt ra = nI La.length) (cb : cnt rb = nI Lb.length) (la : La.length ≤ 19) (lb : Lb.length ≤ 19) (aa : gf_at chn (24 * ra) La) (ab : gf_at chn (24 * rb) Lb) (sa : ∀ x, x ∈ La → -9999 ≤ x ∧ x ≤ 9999) (sb : ∀ x, x ∈ Lb → -9999 ≤ x ∧ x ≤ 9999)
  {X : Int} (h : post (gf_sgn X)) : ∀ (d i n : Nat) (p q p' q' : Int), i + d = 20 → d < n → La.drop i = gf_cf p q → Lb.drop i = gf_cf p' q' → (0 < q ∨ (q = 0 ∧ 0 < p)) → (0 < q' ∨ (q' = 0 ∧ 0 < p')) → (i % 2 = 0 → p * q' - p' * q = X) → (i % 2 = 1 → p * q' - p' * q = -X) → wX_compare_21 post (nI ra) (nI rb) ov vt vb cnt chn tb n (nI i) := by
  intro d
  induction d with
  | zero =>
    intro i n p q p' q' hi hn d1 d2 q0 q0' p0 p1
    obtain ⟨n, rfl⟩ : ∃ m, n = m + 1 := ⟨n - 1, by omega⟩
    refine gf_cmp_s ha hb ca cb la lb aa ab sa sb h (by omega) d1 d2 q0 q0' p0 p1 (fun z _ _ => ?_)
    rw [gf_cf_s (by omega)] at d1
    have := (gf_drop_cons _ _ _ _ d1).1
    omega
  | succ d ih =>
    intro i n p q p' q' hi hn d1 d2 q0 q0' p0 p1
    obtain ⟨n, rfl⟩ : ∃ m, n = m + 1 := ⟨n - 1, by omega⟩
    refine gf_cmp_s ha hb ca cb la lb aa ab sa sb h (by omega) d1 d2 q0 q0' p0 p1 (fun z z' e => ?_)
    rw [gf_cf_s (by omega)] at d1 d2
    have f1 := gf_fd_p p z
    have f2 := gf_fd_p p' z'
    have r : q * (p' - p'.fdiv q' * q') - q' * (p - p.fdiv q * q) = -(p * q' - p' * q) := by
      rw [e]
      grind
    exact ih (i + 1) n q _ q' _ (by omega) (by omega) (gf_drop_cons _ _ _ _ d1).2.2 (gf_drop_cons _ _ _ _ d2).2.2 (by omega) (by omega) (fun y => by have := p1 (by omega); omega) (fun y => by have := p0 (by omega); omega)
theorem gf_cmpX (ha : ra < 4) (hb : rb < 4) {pa qa pb qb : Int} (oa : gf_ok pa qa) (ob : gf_ok pb qb) (ga : gf_reg cnt chn ra pa qa) (gb : gf_reg cnt chn rb pb qb) (h : post (gf_sgn (pa * qb - pb * qa))) : wpX_compare post (ov, vt, vb, cnt, chn, tb) (nI ra) (nI rb) := by
  have a3 := oa.2.2.1
  have b3 := ob.2.2.1
  unfold wpX_compare
  refine gf_isX1 ha (br_f gf_ne10 (gf_isX1 hb (br_f gf_ne10 ⟨21, ?_⟩)))
  exact gf_cmp_l ha hb ga.1 gb.1 (gf_ok_len oa) (gf_ok_len ob) ga.2 gb.2 (gf_ok_rng oa) (gf_ok_rng ob) h 20 0 21 pa qa pb qb (by omega) (by omega) rfl rfl (by omega) (by omega) (fun _ => rfl) (fun z => by omega)
end
theorem gf_cmpY {post : Int32 → Prop} {len : Int32} {tops bots chn : Nat → Int32} {ra rb : Nat} (ha : ra < 4) (hb : rb < 4) {pa qa pb qb : Int} (oa : gf_ok pa qa) (ob : gf_ok pb qb) (ta : tops ra = gf_i pa) (ba : bots ra = gf_i qa) (tb : tops rb = gf_i pb) (bb : bots rb = gf_i qb) (h : post (gf_sgn (pa * qb - pb * qa))) : wpY_compare post (len, tops, bots, chn) (nI ra) (nI rb) := by
  obtain ⟨a1, a2, a3, a4, a5⟩ := oa
  obtain ⟨b1, b2, b3, b4, b5⟩ := ob
  have va : vp_in (nI ra) 4 := vp_in_nI (by omega) (by omega)
  have vb : vp_in (nI rb) 4 := vp_in_nI (by omega) (by omega)
  have m1 := gf_mb (x := pa) (y := qb) (A := 9999) (B := 9999) a1 a2 (by omega) b4
  have m2 := gf_mb (x := pb) (y := qa) (A := 9999) (B := 9999) b1 b2 (by omega) a4
  have e1 : (tops (nI ra).toNatClampNeg).toInt64 * (bots (nI rb).toNatClampNeg).toInt64 = gf_l (pa * qb) := by
    rw [nI_clamp (by omega), nI_clamp (by omega), ta, bb, gf_i_l ⟨by omega, by omega⟩, gf_i_l ⟨by omega, by omega⟩, gf_l_mul]
  have e2 : (tops (nI rb).toNatClampNeg).toInt64 * (bots (nI ra).toNatClampNeg).toInt64 = gf_l (pb * qa) := by
    rw [nI_clamp (by omega), nI_clamp (by omega), tb, ba, gf_i_l ⟨by omega, by omega⟩, gf_i_l ⟨by omega, by omega⟩, gf_l_mul]
  have B1 : gf_B (pa * qb) := ⟨by omega, by omega⟩
  have B2 : gf_B (pb * qa) := ⟨by omega, by omega⟩
  unfold wpY_compare
  refine gf_isY1 ha (br_f gf_ne10 (gf_isY1 hb (br_f gf_ne10 (And.intro va (And.intro vb (nm_r e1 (And.intro vb (And.intro va (nm_r e2 ?_)))))))))
  refine ek_if (gf_l_le B2 B1) (fun z => ek_if (gf_l_le B1 B2) (fun w => ?_) (fun w => ?_)) (fun z => ?_)
  · rw [gf_sgn_0 (by omega)] at h
    exact h
  · rw [gf_sgn_p (by omega)] at h
    exact h
  · rw [gf_sgn_n (by omega)] at h
    exact h
theorem i_vc_compare {k : Nat} {u : SX} {v : SY} (I : i_Rel k u v) (hk : k + 5 ≤ 2560) (v1 : Int32) (v2 : Int32) : wpX_compare (fun r => wpY_compare (fun r' => r' = r ∧ i_Rel (k + 5) u v) v v1 v2) u v1 v2 := by
  obtain ⟨ov, vt, vb, cnt, chn, tb⟩ := u
  obtain ⟨len, tops, bots, yc⟩ := v
  by_cases hr : gf_rg v1
  · obtain ⟨r, hr, rfl⟩ := hr
    by_cases hs : gf_rg v2
    · obtain ⟨s, hs, rfl⟩ := hs
      obtain ⟨pa, qa, oa, ta, ba, ga⟩ := I r hr
      obtain ⟨pb, qb, ob, tb', bb, gb⟩ := I s hs
      exact gf_cmpX hr hs oa ob ga gb (gf_cmpY hr hs oa ob ta ba tb' bb ⟨rfl, I⟩)
    · unfold wpX_compare wpY_compare
      exact gf_isX1 hr (br_f gf_ne10 (gf_isX0 hs (br_t rfl (gf_isY1 hr (br_f gf_ne10 (gf_isY0 hs (br_t rfl ⟨rfl, I⟩)))))))
  · unfold wpX_compare wpY_compare
    exact gf_isX0 hr (br_t rfl (gf_isY0 hr (br_t rfl ⟨rfl, I⟩)))
end
section
/-! apply -/
theorem gf_kp {post : Int32 → SX → Prop} {YW : (Int32 → SY → Prop) → Prop} {k rd : Nat} {N D P Q : Int} {ov : Int32} {vt vb : Int64} {cnt chn cnt' chn' : Nat → Int32} {tb : Nat → Int64} {len : Int32} {tops bots yc : Nat → Int32} (hd : rd < 4) (I : gf_rel cnt chn tops bots) (D0 : D ≠ 0) (hN : gf_B N) (hD : gf_B D) (hP : P = (gf_ev (gf_cf N D)).1) (hQ : Q = (gf_ev (gf_cf N D)).2)
  (HY : ∀ post' : Int32 → SY → Prop, (¬ gf_sm P Q → post' (-1000002) (len, tops, bots, yc)) → (gf_sm P Q → ∀ (len' : Int32) (yc' : Nat → Int32), post' (nI (gf_cf P Q).length) (len', upd tops rd (gf_i P), upd bots rd (gf_i Q), yc')) → YW post')
  (Hp : ∀ (r : Int32) (u' : SX), YW (fun r' v' => r' = r ∧ i_Rel (k + 5) u' v') → post r u') (R : gf_Res cnt chn (gf_cf N D) ov cnt' chn') : wpX_keep post (ov, vt, vb, cnt', chn', tb) (nI rd) := by
  refine gf_keep hd D0 hN hD hP hQ R (fun ns ov vt vb cnt' chn' tb fr => Hp _ _ (HY _ (fun _ => ⟨rfl, gf_rel_fr I fr⟩) (fun s => absurd s ns))) (fun s ov vt vb cnt' chn' tb up => Hp _ _ (HY _ (fun ns => absurd s ns) (fun _ len' yc' => ?_)))
  obtain ⟨ok, e⟩ := gf_sm_ok D0 hP hQ s
  exact ⟨by rw [e], gf_rel_upd I up hd ok e⟩
theorem gf_ap57 {post : Int32 → SX → Prop} {x1 x2 x3 x4 : Int32} {ov : Int32} {vt vb : Int64} {cnt chn : Nat → Int32} (K : ∀ (n : Nat) (tb' : Nat → Int64), (∀ i, i < 8 → tb' i = 0) → wX_apply_57 post x1 x2 x3 x4 ov vt vb (n + 1) (nI 8) cnt chn tb') : ∀ (d k n : Nat) (tb : Nat → Int64), k + d = 8 → d < n → (∀ i, i < k → tb i = 0) → wX_apply_57 post x1 x2 x3 x4 ov vt vb n (nI k) cnt chn tb := by
  intro d
  induction d with
  | zero =>
    intro k n tb hk hn h
    obtain ⟨n, rfl⟩ : ∃ m, n = m + 1 := ⟨n - 1, by omega⟩
    have : k = 8 := by omega
    subst this
    exact K n tb h
  | succ d ih =>
    intro k n tb hk hn h
    obtain ⟨n, rfl⟩ : ∃ m, n = m + 1 := ⟨n - 1, by omega⟩
    refine br_f (nI_ge (b := 8) (by omega) (by omega)) (And.intro (vp_in_nI (by omega) (by omega)) (nm_r (e' := vp_updL tb k 0) ?_ (nm_r (nI_1 k) (ih (k + 1) n _ (by omega) (by omega) ?_))))
    · rw [nI_clamp (by omega)]
    · intro r hr
      by_cases c : r = k
      · subst c
        exact pk_uLs
      · rw [pk_uLn c]
        exact h r (by omega)
theorem gf_isZeroX {post : Int32 → Prop} {ov : Int32} {vt vb : Int64} {cnt chn : Nat → Int32} {tb : Nat → Int64} {r : Nat} (hr : r < 4) {p q : Int} (ok : gf_ok p q) (g : gf_reg cnt chn r p q) (h1 : p = 0 → post 1) (h0 : p ≠ 0 → post 0) : wpX_isZero post (ov, vt, vb, cnt, chn, tb) (nI r) := by
  obtain ⟨l, e, tl⟩ := gf_cf_tail (p := p) (q := q) (by have := ok.2.2.1; omega)
  have ev := gf_ok_ev ok
  have rg := gf_ok_rng ok
  obtain ⟨g1, g2⟩ := g
  rw [e] at g1 g2 ev rg
  have i5 : vp_in (nI r) 5 := vp_in_nI (by omega) (by omega)
  have hl := gf_ok_len ok
  rw [e] at hl
  refine And.intro i5 ?_
  have e24 : (24 : Int32) * nI r = nI (24 * r) := pk_mul 24 r
  rw [nI_clamp (by omega), g1, e24, nI_clamp (by omega)]
  have c0 : chn (24 * r) = gf_i (p.fdiv q) := g2 0 (by rw [List.length_cons]; omega)
  rw [c0]
  have rw0 := rg _ List.mem_cons_self
  refine pk_eq (p.fdiv q :: l).length 1 (fun z => And.intro (vp_in_nI (by omega) (by omega)) (ek_if (d := p.fdiv q = 0) ?_ (fun w => h1 ?_) (fun w => h0 ?_))) (fun z => h0 ?_)
  · rw [gf_i0]
    exact gf_i_eq ⟨by omega, by omega⟩ gf_S0
  · have : l = [] := by
      rw [List.length_cons] at z
      exact List.eq_nil_of_length_eq_zero (by omega)
    subst this
    rw [w] at ev
    have := congrArg Prod.fst ev
    exact this.symm
  · intro pz
    subst pz
    exact w (by rw [Int.zero_fdiv])
  · intro pz
    subst pz
    have q1 : q = 1 := by
      have := ok.2.2.2.2
      have := ok.2.2.1
      rw [Int.gcd_zero_left] at *
      omega
    subst q1
    rw [gf_cf01] at e
    rw [← e] at z
    exact z rfl
theorem gf_store_e {post : Int32 → SY → Prop} {len : Int32} {tops bots chn : Nat → Int32} {r : Nat} (hr : r < 4) {p q P Q : Int} {x y : Int64} (ex : x = gf_l p) (ey : y = gf_l q) (hp : gf_B p) (hq : gf_B q) (q0 : q ≠ 0) (hP : P = (gf_ev (gf_cf p q)).1) (hQ : Q = (gf_ev (gf_cf p q)).2) (h0 : ¬ gf_sm P Q → post 0 (len, tops, bots, chn)) (h1 : gf_sm P Q → post 1 (len, upd tops r (gf_i P), upd bots r (gf_i Q), chn)) : wpY_store post (len, tops, bots, chn) (nI r) x y := by
  subst ex ey
  exact gf_store hr hp hq q0 hP hQ h0 h1
theorem gf_195 {post : Int32 → SY → Prop} {len : Int32} {tops bots yc : Nat → Int32} {rd : Nat} (hd : rd < 4) {P Q : Int} (ok : gf_ok P Q) (h1 : ∀ (len' : Int32) (yc' : Nat → Int32), post (nI (gf_cf P Q).length) (len', upd tops rd (gf_i P), upd bots rd (gf_i Q), yc')) : wY_apply_195 post (nI rd) 1 len (upd tops rd (gf_i P)) (upd bots rd (gf_i Q)) yc := by
  exact br_f gf_ne10 (gf_termsY hd ok pk_us pk_us (fun yc' _ => h1 _ yc'))
theorem gf_tab0 {tb : Nat → Int64} (z : ∀ i, i < 8 → tb i = 0) : gf_tab (vp_updL (vp_updL (vp_updL tb 1 1) 2 1) 7 1) 0 1 1 0 0 0 0 1 := by
  have z0 : tb 0 = 0 := z 0 (by decide)
  have z1 : tb 1 = 0 := z 1 (by decide)
  have z2 : tb 2 = 0 := z 2 (by decide)
  have z3 : tb 3 = 0 := z 3 (by decide)
  have z4 : tb 4 = 0 := z 4 (by decide)
  have z5 : tb 5 = 0 := z 5 (by decide)
  have z6 : tb 6 = 0 := z 6 (by decide)
  have z7 : tb 7 = 0 := z 7 (by decide)
  refine ⟨?_, ?_, ?_, ?_, ?_, ?_, ?_, ?_⟩ <;> simp (disch := decide) only [pk_uLs, pk_uLn, z0, z1, z2, z3, z4, z5, z6, z7] <;> decide
theorem gf_apY0 {post : Int32 → SY → Prop} {len : Int32} {tops bots yc : Nat → Int32} {rd ra rb : Nat} (hd : rd < 4) (ha : ra < 4) (hb : rb < 4) {pa qa pb qb P Q : Int} (oa : gf_ok pa qa) (ob : gf_ok pb qb) (ta : tops ra = gf_i pa) (ba : bots ra = gf_i qa) (tb : tops rb = gf_i pb) (bb : bots rb = gf_i qb) (D0 : qa * qb ≠ 0) (BN : gf_B (pa * qb + pb * qa)) (BD : gf_B (qa * qb)) (hP : P = (gf_ev (gf_cf (pa * qb + pb * qa) (qa * qb))).1) (hQ : Q = (gf_ev (gf_cf (pa * qb + pb * qa) (qa * qb))).2) (h0 : ¬ gf_sm P Q → post (-1000002) (len, tops, bots, yc)) (h1 : gf_sm P Q → ∀ (len' : Int32) (yc' : Nat → Int32), post (nI (gf_cf P Q).length) (len', upd tops rd (gf_i P), upd bots rd (gf_i Q), yc')) : wY_apply_55 post (nI 0) (nI rd) (nI ra) (nI rb) len tops bots yc := by
  obtain ⟨a1, a2, a3, a4, a5⟩ := oa
  obtain ⟨b1, b2, b3, b4, b5⟩ := ob
  have va : vp_in (nI ra) 4 := vp_in_nI (by omega) (by omega)
  have vb : vp_in (nI rb) 4 := vp_in_nI (by omega) (by omega)
  have e1 : (tops (nI ra).toNatClampNeg).toInt64 = gf_l pa := by rw [nI_clamp (by omega), ta, gf_i_l ⟨by omega, by omega⟩]
  have e2 : (bots (nI ra).toNatClampNeg).toInt64 = gf_l qa := by rw [nI_clamp (by omega), ba, gf_i_l ⟨by omega, by omega⟩]
  have e3 : (tops (nI rb).toNatClampNeg).toInt64 = gf_l pb := by rw [nI_clamp (by omega), tb, gf_i_l ⟨by omega, by omega⟩]
  have e4 : (bots (nI rb).toNatClampNeg).toInt64 = gf_l qb := by rw [nI_clamp (by omega), bb, gf_i_l ⟨by omega, by omega⟩]
  refine And.intro va (nm_r e1 (And.intro va (nm_r e2 (And.intro vb (nm_r e3 (And.intro vb (nm_r e4 ?_)))))))
  exact br_t (by decide) (gf_store_e hd (by rw [gf_l_mul, gf_l_mul, gf_l_add]) (gf_l_mul _ _) BN BD D0 hP hQ (fun ns => br_f (by decide) (br_f (by decide) (br_f (by decide) (br_t rfl (h0 ns))))) (fun s => br_f (by decide) (br_f (by decide) (br_f (by decide) (gf_195 hd (gf_sm_ok D0 hP hQ s).1 (h1 s))))))
theorem gf_tab1 {tb : Nat → Int64} (z : ∀ i, i < 8 → tb i = 0) : gf_tab (vp_updL (vp_updL (vp_updL tb 1 1) 2 (-1)) 7 1) 0 1 (-1) 0 0 0 0 1 := by
  have z0 : tb 0 = 0 := z 0 (by decide)
  have z1 : tb 1 = 0 := z 1 (by decide)
  have z2 : tb 2 = 0 := z 2 (by decide)
  have z3 : tb 3 = 0 := z 3 (by decide)
  have z4 : tb 4 = 0 := z 4 (by decide)
  have z5 : tb 5 = 0 := z 5 (by decide)
  have z6 : tb 6 = 0 := z 6 (by decide)
  have z7 : tb 7 = 0 := z 7 (by decide)
  refine ⟨?_, ?_, ?_, ?_, ?_, ?_, ?_, ?_⟩ <;> simp (disch := decide) only [pk_uLs, pk_uLn, z0, z1, z2, z3, z4, z5, z6, z7] <;> decide
theorem gf_apY1 {post : Int32 → SY → Prop} {len : Int32} {tops bots yc : Nat → Int32} {rd ra rb : Nat} (hd : rd < 4) (ha : ra < 4) (hb : rb < 4) {pa qa pb qb P Q : Int} (oa : gf_ok pa qa) (ob : gf_ok pb qb) (ta : tops ra = gf_i pa) (ba : bots ra = gf_i qa) (tb : tops rb = gf_i pb) (bb : bots rb = gf_i qb) (D0 : qa * qb ≠ 0) (BN : gf_B (pa * qb - pb * qa)) (BD : gf_B (qa * qb)) (hP : P = (gf_ev (gf_cf (pa * qb - pb * qa) (qa * qb))).1) (hQ : Q = (gf_ev (gf_cf (pa * qb - pb * qa) (qa * qb))).2) (h0 : ¬ gf_sm P Q → post (-1000002) (len, tops, bots, yc)) (h1 : gf_sm P Q → ∀ (len' : Int32) (yc' : Nat → Int32), post (nI (gf_cf P Q).length) (len', upd tops rd (gf_i P), upd bots rd (gf_i Q), yc')) : wY_apply_55 post (nI 1) (nI rd) (nI ra) (nI rb) len tops bots yc := by
  obtain ⟨a1, a2, a3, a4, a5⟩ := oa
  obtain ⟨b1, b2, b3, b4, b5⟩ := ob
  have va : vp_in (nI ra) 4 := vp_in_nI (by omega) (by omega)
  have vb : vp_in (nI rb) 4 := vp_in_nI (by omega) (by omega)
  have e1 : (tops (nI ra).toNatClampNeg).toInt64 = gf_l pa := by rw [nI_clamp (by omega), ta, gf_i_l ⟨by omega, by omega⟩]
  have e2 : (bots (nI ra).toNatClampNeg).toInt64 = gf_l qa := by rw [nI_clamp (by omega), ba, gf_i_l ⟨by omega, by omega⟩]
  have e3 : (tops (nI rb).toNatClampNeg).toInt64 = gf_l pb := by rw [nI_clamp (by omega), tb, gf_i_l ⟨by omega, by omega⟩]
  have e4 : (bots (nI rb).toNatClampNeg).toInt64 = gf_l qb := by rw [nI_clamp (by omega), bb, gf_i_l ⟨by omega, by omega⟩]
  refine And.intro va (nm_r e1 (And.intro va (nm_r e2 (And.intro vb (nm_r e3 (And.intro vb (nm_r e4 ?_)))))))
  exact br_f (by decide) (br_t (by decide) (gf_store_e hd (by rw [gf_l_mul, gf_l_mul, gf_l_sub]) (gf_l_mul _ _) BN BD D0 hP hQ (fun ns => br_f (by decide) (br_f (by decide) (br_t rfl (h0 ns)))) (fun s => br_f (by decide) (br_f (by decide) (gf_195 hd (gf_sm_ok D0 hP hQ s).1 (h1 s))))))
theorem gf_tab2 {tb : Nat → Int64} (z : ∀ i, i < 8 → tb i = 0) : gf_tab (vp_updL (vp_updL tb 0 1) 7 1) 1 0 0 0 0 0 0 1 := by
  have z0 : tb 0 = 0 := z 0 (by decide)
  have z1 : tb 1 = 0 := z 1 (by decide)
  have z2 : tb 2 = 0 := z 2 (by decide)
  have z3 : tb 3 = 0 := z 3 (by decide)
  have z4 : tb 4 = 0 := z 4 (by decide)
  have z5 : tb 5 = 0 := z 5 (by decide)
  have z6 : tb 6 = 0 := z 6 (by decide)
  have z7 : tb 7 = 0 := z 7 (by decide)
  refine ⟨?_, ?_, ?_, ?_, ?_, ?_, ?_, ?_⟩ <;> simp (disch := decide) only [pk_uLs, pk_uLn, z0, z1, z2, z3, z4, z5, z6, z7] <;> decide
theorem gf_apY2 {post : Int32 → SY → Prop} {len : Int32} {tops bots yc : Nat → Int32} {rd ra rb : Nat} (hd : rd < 4) (ha : ra < 4) (hb : rb < 4) {pa qa pb qb P Q : Int} (oa : gf_ok pa qa) (ob : gf_ok pb qb) (ta : tops ra = gf_i pa) (ba : bots ra = gf_i qa) (tb : tops rb = gf_i pb) (bb : bots rb = gf_i qb) (D0 : qa * qb ≠ 0) (BN : gf_B (pa * pb)) (BD : gf_B (qa * qb)) (hP : P = (gf_ev (gf_cf (pa * pb) (qa * qb))).1) (hQ : Q = (gf_ev (gf_cf (pa * pb) (qa * qb))).2) (h0 : ¬ gf_sm P Q → post (-1000002) (len, tops, bots, yc)) (h1 : gf_sm P Q → ∀ (len' : Int32) (yc' : Nat → Int32), post (nI (gf_cf P Q).length) (len', upd tops rd (gf_i P), upd bots rd (gf_i Q), yc')) : wY_apply_55 post (nI 2) (nI rd) (nI ra) (nI rb) len tops bots yc := by
  obtain ⟨a1, a2, a3, a4, a5⟩ := oa
  obtain ⟨b1, b2, b3, b4, b5⟩ := ob
  have va : vp_in (nI ra) 4 := vp_in_nI (by omega) (by omega)
  have vb : vp_in (nI rb) 4 := vp_in_nI (by omega) (by omega)
  have e1 : (tops (nI ra).toNatClampNeg).toInt64 = gf_l pa := by rw [nI_clamp (by omega), ta, gf_i_l ⟨by omega, by omega⟩]
  have e2 : (bots (nI ra).toNatClampNeg).toInt64 = gf_l qa := by rw [nI_clamp (by omega), ba, gf_i_l ⟨by omega, by omega⟩]
  have e3 : (tops (nI rb).toNatClampNeg).toInt64 = gf_l pb := by rw [nI_clamp (by omega), tb, gf_i_l ⟨by omega, by omega⟩]
  have e4 : (bots (nI rb).toNatClampNeg).toInt64 = gf_l qb := by rw [nI_clamp (by omega), bb, gf_i_l ⟨by omega, by omega⟩]
  refine And.intro va (nm_r e1 (And.intro va (nm_r e2 (And.intro vb (nm_r e3 (And.intro vb (nm_r e4 ?_)))))))
  exact br_f (by decide) (br_f (by decide) (br_t (by decide) (gf_store_e hd (gf_l_mul _ _) (gf_l_mul _ _) BN BD D0 hP hQ (fun ns => br_f (by decide) (br_t rfl (h0 ns))) (fun s => br_f (by decide) (gf_195 hd (gf_sm_ok D0 hP hQ s).1 (h1 s))))))
theorem gf_tab3 {tb : Nat → Int64} (z : ∀ i, i < 8 → tb i = 0) : gf_tab (vp_updL (vp_updL tb 1 1) 6 1) 0 1 0 0 0 0 1 0 := by
  have z0 : tb 0 = 0 := z 0 (by decide)
  have z1 : tb 1 = 0 := z 1 (by decide)
  have z2 : tb 2 = 0 := z 2 (by decide)
  have z3 : tb 3 = 0 := z 3 (by decide)
  have z4 : tb 4 = 0 := z 4 (by decide)
  have z5 : tb 5 = 0 := z 5 (by decide)
  have z6 : tb 6 = 0 := z 6 (by decide)
  have z7 : tb 7 = 0 := z 7 (by decide)
  refine ⟨?_, ?_, ?_, ?_, ?_, ?_, ?_, ?_⟩ <;> simp (disch := decide) only [pk_uLs, pk_uLn, z0, z1, z2, z3, z4, z5, z6, z7] <;> decide
theorem gf_apY3 {post : Int32 → SY → Prop} {len : Int32} {tops bots yc : Nat → Int32} {rd ra rb : Nat} (hd : rd < 4) (ha : ra < 4) (hb : rb < 4) {pa qa pb qb P Q : Int} (oa : gf_ok pa qa) (ob : gf_ok pb qb) (ta : tops ra = gf_i pa) (ba : bots ra = gf_i qa) (tb : tops rb = gf_i pb) (bb : bots rb = gf_i qb) (D0 : qa * pb ≠ 0) (BN : gf_B (pa * qb)) (BD : gf_B (qa * pb)) (hP : P = (gf_ev (gf_cf (pa * qb) (qa * pb))).1) (hQ : Q = (gf_ev (gf_cf (pa * qb) (qa * pb))).2) (h0 : ¬ gf_sm P Q → post (-1000002) (len, tops, bots, yc)) (h1 : gf_sm P Q → ∀ (len' : Int32) (yc' : Nat → Int32), post (nI (gf_cf P Q).length) (len', upd tops rd (gf_i P), upd bots rd (gf_i Q), yc')) : wY_apply_55 post (nI 3) (nI rd) (nI ra) (nI rb) len tops bots yc := by
  obtain ⟨a1, a2, a3, a4, a5⟩ := oa
  obtain ⟨b1, b2, b3, b4, b5⟩ := ob
  have va : vp_in (nI ra) 4 := vp_in_nI (by omega) (by omega)
  have vb : vp_in (nI rb) 4 := vp_in_nI (by omega) (by omega)
  have e1 : (tops (nI ra).toNatClampNeg).toInt64 = gf_l pa := by rw [nI_clamp (by omega), ta, gf_i_l ⟨by omega, by omega⟩]
  have e2 : (bots (nI ra).toNatClampNeg).toInt64 = gf_l qa := by rw [nI_clamp (by omega), ba, gf_i_l ⟨by omega, by omega⟩]
  have e3 : (tops (nI rb).toNatClampNeg).toInt64 = gf_l pb := by rw [nI_clamp (by omega), tb, gf_i_l ⟨by omega, by omega⟩]
  have e4 : (bots (nI rb).toNatClampNeg).toInt64 = gf_l qb := by rw [nI_clamp (by omega), bb, gf_i_l ⟨by omega, by omega⟩]
  refine And.intro va (nm_r e1 (And.intro va (nm_r e2 (And.intro vb (nm_r e3 (And.intro vb (nm_r e4 ?_)))))))
  exact br_f (by decide) (br_f (by decide) (br_f (by decide) (br_t (by decide) (gf_store_e hd (gf_l_mul _ _) (gf_l_mul _ _) BN BD D0 hP hQ (fun ns => br_t rfl (h0 ns)) (fun s => gf_195 hd (gf_sm_ok D0 hP hQ s).1 (h1 s))))))
section
variable {k : Nat} {len : Int32} {tops bots yc : Nat → Int32} {ov : Int32} {vt vb : Int64} {cnt chn : Nat → Int32} {tb : Nat → Int64} {rd ra rb : Nat} {pa qa pb qb : Int}
theorem gf_apX0 (hd : rd < 4) (ha : ra < 4) (hb : rb < 4) (I : gf_rel cnt chn tops bots) (oa : gf_ok pa qa) (ob : gf_ok pb qb) (ta : tops ra = gf_i pa) (ba : bots ra = gf_i qa) (tb' : tops rb = gf_i pb) (bb : bots rb = gf_i qb) (ga : gf_reg cnt chn ra pa qa) (gb : gf_reg cnt chn rb pb qb) (D0 : qa * qb ≠ 0) {YW : (Int32 → SY → Prop) → Prop} (HY : ∀ post : Int32 → SY → Prop, wY_apply_55 post (nI 0) (nI rd) (nI ra) (nI rb) len tops bots yc → YW post) : ∃ n57 : Nat, wX_apply_57 (fun r u' => YW (fun r' v' => r' = r ∧ i_Rel (k + 5) u' v')) (nI 0) (nI rd) (nI ra) (nI rb) ov vt vb n57 0 cnt chn tb := by
  obtain ⟨a1, a2, a3, a4, a5⟩ := id oa
  obtain ⟨b1, b2, b3, b4, b5⟩ := id ob
  have m1 := gf_mb (x := pa) (y := qb) (A := 9999) (B := 9999) a1 a2 (by omega) b4
  have m2 := gf_mb (x := pb) (y := qa) (A := 9999) (B := 9999) b1 b2 (by omega) a4
  have m3 := gf_mb (x := pa) (y := pb) (A := 9999) (B := 9999) a1 a2 b1 b2
  have m4 := gf_mb (x := qa) (y := qb) (A := 9999) (B := 9999) (by omega) a4 (by omega) b4
  have m5 := gf_mb (x := qa) (y := pb) (A := 9999) (B := 9999) (by omega) a4 b1 b2
  have BN : gf_B (pa * qb + pb * qa) := ⟨by omega, by omega⟩
  have BD : gf_B (qa * qb) := ⟨by omega, by omega⟩
  refine ⟨9, gf_ap57 (fun n tb z => br_t (by decide) ?_) 8 0 9 tb (by omega) (by omega) (fun i hi => absurd hi (Nat.not_lt_zero i))⟩
  refine br_f (by decide) (nm_e (br_t (by decide) (nm_e (br_f (by decide) (br_f (by decide) (nm_e ?_))))))
  refine gf_runX (N := pa * qb + pb * qa) (D := qa * qb) ha hb oa ob ga gb (gf_tab0 z) ⟨by decide, by decide, by decide, by decide, by decide, by decide, by decide, by decide⟩ ⟨by decide, by decide, by decide, by decide, by decide, by decide, by decide, by decide⟩ (by unfold gf_F; grind) (by unfold gf_F; grind) D0 fun ov vt vb cnt' chn' tb R => ?_
  refine gf_kp (k := k) (YW := YW) hd I D0 BN BD rfl rfl (fun post h0 h1 => HY post (gf_apY0 hd ha hb oa ob ta ba tb' bb D0 BN BD rfl rfl h0 h1)) (fun r u' h => ?_) R
  obtain ⟨_, _, _, _, _, _⟩ := u'
  exact h
theorem gf_apX1 (hd : rd < 4) (ha : ra < 4) (hb : rb < 4) (I : gf_rel cnt chn tops bots) (oa : gf_ok pa qa) (ob : gf_ok pb qb) (ta : tops ra = gf_i pa) (ba : bots ra = gf_i qa) (tb' : tops rb = gf_i pb) (bb : bots rb = gf_i qb) (ga : gf_reg cnt chn ra pa qa) (gb : gf_reg cnt chn rb pb qb) (D0 : qa * qb ≠ 0) {YW : (Int32 → SY → Prop) → Prop} (HY : ∀ post : Int32 → SY → Prop, wY_apply_55 post (nI 1) (nI rd) (nI ra) (nI rb) len tops bots yc → YW post) : ∃ n57 : Nat, wX_apply_57 (fun r u' => YW (fun r' v' => r' = r ∧ i_Rel (k + 5) u' v')) (nI 1) (nI rd) (nI ra) (nI rb) ov vt vb n57 0 cnt chn tb := by
  obtain ⟨a1, a2, a3, a4, a5⟩ := id oa
  obtain ⟨b1, b2, b3, b4, b5⟩ := id ob
  have m1 := gf_mb (x := pa) (y := qb) (A := 9999) (B := 9999) a1 a2 (by omega) b4
  have m2 := gf_mb (x := pb) (y := qa) (A := 9999) (B := 9999) b1 b2 (by omega) a4
  have m3 := gf_mb (x := pa) (y := pb) (A := 9999) (B := 9999) a1 a2 b1 b2
  have m4 := gf_mb (x := qa) (y := qb) (A := 9999) (B := 9999) (by omega) a4 (by omega) b4
  have m5 := gf_mb (x := qa) (y := pb) (A := 9999) (B := 9999) (by omega) a4 b1 b2
  have BN : gf_B (pa * qb - pb * qa) := ⟨by omega, by omega⟩
  have BD : gf_B (qa * qb) := ⟨by omega, by omega⟩
  refine ⟨9, gf_ap57 (fun n tb z => br_t (by decide) ?_) 8 0 9 tb (by omega) (by omega) (fun i hi => absurd hi (Nat.not_lt_zero i))⟩
  refine br_f (by decide) (nm_e (br_f (by decide) (br_t (by decide) (nm_e (br_f (by decide) (nm_e ?_))))))
  refine gf_runX (N := pa * qb - pb * qa) (D := qa * qb) ha hb oa ob ga gb (gf_tab1 z) ⟨by decide, by decide, by decide, by decide, by decide, by decide, by decide, by decide⟩ ⟨by decide, by decide, by decide, by decide, by decide, by decide, by decide, by decide⟩ (by unfold gf_F; grind) (by unfold gf_F; grind) D0 fun ov vt vb cnt' chn' tb R => ?_
  refine gf_kp (k := k) (YW := YW) hd I D0 BN BD rfl rfl (fun post h0 h1 => HY post (gf_apY1 hd ha hb oa ob ta ba tb' bb D0 BN BD rfl rfl h0 h1)) (fun r u' h => ?_) R
  obtain ⟨_, _, _, _, _, _⟩ := u'
  exact h
theorem gf_apX2 (hd : rd < 4) (ha : ra < 4) (hb : rb < 4) (I : gf_rel cnt chn tops bots) (oa : gf_ok pa qa) (ob : gf_ok pb qb) (ta : tops ra = gf_i pa) (ba : bots ra = gf_i qa) (tb' : tops rb = gf_i pb) (bb : bots rb = gf_i qb) (ga : gf_reg cnt chn ra pa qa) (gb : gf_reg cnt chn rb pb qb) (D0 : qa * qb ≠ 0) {YW : (Int32 → SY → Prop) → Prop} (HY : ∀ post : Int32 → SY → Prop, wY_apply_55 post (nI 2) (nI rd) (nI ra) (nI rb) len tops bots yc → YW post) : ∃ n57 : Nat, wX_apply_57 (fun r u' => YW (fun r' v' => r' = r ∧ i_Rel (k + 5) u' v')) (nI 2) (nI rd) (nI ra) (nI rb) ov vt vb n57 0 cnt chn tb := by
  obtain ⟨a1, a2, a3, a4, a5⟩ := id oa
  obtain ⟨b1, b2, b3, b4, b5⟩ := id ob
  have m1 := gf_mb (x := pa) (y := qb) (A := 9999) (B := 9999) a1 a2 (by omega) b4
  have m2 := gf_mb (x := pb) (y := qa) (A := 9999) (B := 9999) b1 b2 (by omega) a4
  have m3 := gf_mb (x := pa) (y := pb) (A := 9999) (B := 9999) a1 a2 b1 b2
  have m4 := gf_mb (x := qa) (y := qb) (A := 9999) (B := 9999) (by omega) a4 (by omega) b4
  have m5 := gf_mb (x := qa) (y := pb) (A := 9999) (B := 9999) (by omega) a4 b1 b2
  have BN : gf_B (pa * pb) := ⟨by omega, by omega⟩
  have BD : gf_B (qa * qb) := ⟨by omega, by omega⟩
  refine ⟨9, gf_ap57 (fun n tb z => br_t (by decide) ?_) 8 0 9 tb (by omega) (by omega) (fun i hi => absurd hi (Nat.not_lt_zero i))⟩
  refine br_t (by decide) (nm_e (br_f (by decide) (br_f (by decide) (br_f (by decide) (nm_e ?_)))))
  refine gf_runX (N := pa * pb) (D := qa * qb) ha hb oa ob ga gb (gf_tab2 z) ⟨by decide, by decide, by decide, by decide, by decide, by decide, by decide, by decide⟩ ⟨by decide, by decide, by decide, by decide, by decide, by decide, by decide, by decide⟩ (by unfold gf_F; grind) (by unfold gf_F; grind) D0 fun ov vt vb cnt' chn' tb R => ?_
  refine gf_kp (k := k) (YW := YW) hd I D0 BN BD rfl rfl (fun post h0 h1 => HY post (gf_apY2 hd ha hb oa ob ta ba tb' bb D0 BN BD rfl rfl h0 h1)) (fun r u' h => ?_) R
  obtain ⟨_, _, _, _, _, _⟩ := u'
  exact h
theorem gf_apX3 (hd : rd < 4) (ha : ra < 4) (hb : rb < 4) (I : gf_rel cnt chn tops bots) (oa : gf_ok pa qa) (ob : gf_ok pb qb) (ta : tops ra = gf_i pa) (ba : bots ra = gf_i qa) (tb' : tops rb = gf_i pb) (bb : bots rb = gf_i qb) (ga : gf_reg cnt chn ra pa qa) (gb : gf_reg cnt chn rb pb qb) (D0 : qa * pb ≠ 0) {YW : (Int32 → SY → Prop) → Prop} (HY : ∀ post : Int32 → SY → Prop, wY_apply_55 post (nI 3) (nI rd) (nI ra) (nI rb) len tops bots yc → YW post) : ∃ n57 : Nat, wX_apply_57 (fun r u' => YW (fun r' v' => r' = r ∧ i_Rel (k + 5) u' v')) (nI 3) (nI rd) (nI ra) (nI rb) ov vt vb n57 0 cnt chn tb := by
  obtain ⟨a1, a2, a3, a4, a5⟩ := id oa
  obtain ⟨b1, b2, b3, b4, b5⟩ := id ob
  have m1 := gf_mb (x := pa) (y := qb) (A := 9999) (B := 9999) a1 a2 (by omega) b4
  have m2 := gf_mb (x := pb) (y := qa) (A := 9999) (B := 9999) b1 b2 (by omega) a4
  have m3 := gf_mb (x := pa) (y := pb) (A := 9999) (B := 9999) a1 a2 b1 b2
  have m4 := gf_mb (x := qa) (y := qb) (A := 9999) (B := 9999) (by omega) a4 (by omega) b4
  have m5 := gf_mb (x := qa) (y := pb) (A := 9999) (B := 9999) (by omega) a4 b1 b2
  have BN : gf_B (pa * qb) := ⟨by omega, by omega⟩
  have BD : gf_B (qa * pb) := ⟨by omega, by omega⟩
  refine ⟨9, gf_ap57 (fun n tb z => br_t (by decide) ?_) 8 0 9 tb (by omega) (by omega) (fun i hi => absurd hi (Nat.not_lt_zero i))⟩
  refine br_f (by decide) (nm_e (br_f (by decide) (br_f (by decide) (br_t (by decide) (nm_e ?_)))))
  refine gf_runX (N := pa * qb) (D := qa * pb) ha hb oa ob ga gb (gf_tab3 z) ⟨by decide, by decide, by decide, by decide, by decide, by decide, by decide, by decide⟩ ⟨by decide, by decide, by decide, by decide, by decide, by decide, by decide, by decide⟩ (by unfold gf_F; grind) (by unfold gf_F; grind) D0 fun ov vt vb cnt' chn' tb R => ?_
  refine gf_kp (k := k) (YW := YW) hd I D0 BN BD rfl rfl (fun post h0 h1 => HY post (gf_apY3 hd ha hb oa ob ta ba tb' bb D0 BN BD rfl rfl h0 h1)) (fun r u' h => ?_) R
  obtain ⟨_, _, _, _, _, _⟩ := u'
  exact h
end
theorem i_vc_apply {k : Nat} {u : SX} {v : SY} (I : i_Rel k u v) (hk : k + 5 ≤ 2560) (v1 : Int32) (v2 : Int32) (v3 : Int32) (v4 : Int32) : wpX_apply (fun r u' => wpY_apply (fun r' v' => r' = r ∧ i_Rel (k + 5) u' v') v v1 v2 v3 v4) u v1 v2 v3 v4 := by
  obtain ⟨ov, vt, vb, cnt, chn, tb⟩ := u
  obtain ⟨len, tops, bots, yc⟩ := v
  by_cases c0 : v1 < 0
  · exact br_t c0 (br_t c0 ⟨rfl, I⟩)
  by_cases c3 : 3 < v1
  · exact br_f c0 (br_t c3 (br_f c0 (br_t c3 ⟨rfl, I⟩)))
  by_cases hd : gf_rg v2
  case neg => exact br_f c0 (br_f c3 (gf_isX0 hd (br_t rfl (br_f c0 (br_f c3 (gf_isY0 hd (br_t rfl ⟨rfl, I⟩)))))))
  obtain ⟨rd, hd, rfl⟩ := hd
  by_cases ha : gf_rg v3
  case neg => exact br_f c0 (br_f c3 (gf_isX1 hd (br_f gf_ne10 (gf_isX0 ha (br_t rfl (br_f c0 (br_f c3 (gf_isY1 hd (br_f gf_ne10 (gf_isY0 ha (br_t rfl ⟨rfl, I⟩)))))))))))
  obtain ⟨ra, ha, rfl⟩ := ha
  by_cases hb : gf_rg v4
  case neg => exact br_f c0 (br_f c3 (gf_isX1 hd (br_f gf_ne10 (gf_isX1 ha (br_f gf_ne10 (gf_isX0 hb (br_t rfl (br_f c0 (br_f c3 (gf_isY1 hd (br_f gf_ne10 (gf_isY1 ha (br_f gf_ne10 (gf_isY0 hb (br_t rfl ⟨rfl, I⟩)))))))))))))))
  obtain ⟨rb, hb, rfl⟩ := hb
  obtain ⟨o, ho, rfl⟩ := nI_of c0
  have o3 : o ≤ 3 := by
    by_cases c : o ≤ 3
    · exact c
    · exact absurd (nI_lt (a := 3) (by omega) ho) c3
  obtain ⟨pa, qa, oa, ta, ba, ga⟩ := I ra ha
  obtain ⟨pb, qb, ob, tb', bb, gb⟩ := I rb hb
  have qq : qa * qb ≠ 0 := Int.mul_ne_zero (by have := oa.2.2.1; omega) (by have := ob.2.2.1; omega)
  refine br_f c0 (br_f c3 (gf_isX1 hd (br_f gf_ne10 (gf_isX1 ha (br_f gf_ne10 (gf_isX1 hb (br_f gf_ne10 ?_)))))))
  by_cases w : o = 3
  · subst w
    have ez : tops (nI rb).toNatClampNeg = 0 ↔ pb = 0 := by
      rw [nI_clamp (by omega), show tops rb = gf_i pb from tb', gf_i0]
      exact gf_i_eq ⟨by have := ob.1; omega, by have := ob.2.1; omega⟩ gf_S0
    refine br_t (by decide) (gf_isZeroX hb ob gb (fun z => br_f gf_ne10 (br_f c0 (br_f c3 (gf_isY1 hd (br_f gf_ne10 (gf_isY1 ha (br_f gf_ne10 (gf_isY1 hb (br_f gf_ne10 (br_t (by decide) (And.intro (vp_in_nI hb (by omega)) (br_t (ez.mpr z) ⟨rfl, I⟩))))))))))) ) (fun z => br_t rfl ?_))
    exact gf_apX3 (len := len) (yc := yc) hd ha hb I oa ob ta ba tb' bb ga gb (Int.mul_ne_zero (by have := oa.2.2.1; omega) z) (YW := fun post => wpY_apply post (len, tops, bots, yc) (nI 3) (nI rd) (nI ra) (nI rb)) (fun post h => br_f c0 (br_f c3 (gf_isY1 hd (br_f gf_ne10 (gf_isY1 ha (br_f gf_ne10 (gf_isY1 hb (br_f gf_ne10 (br_t (by decide) (And.intro (vp_in_nI hb (by omega)) (br_f (fun y => z (ez.mp y)) h)))))))))))
  · have n3 : ¬ nI o = 3 := fun y => w ((nI_eq (a := o) (b := 3) ho (by omega)).mp y)
    refine br_f n3 ?_
    have Yp : ∀ post : Int32 → SY → Prop, wY_apply_55 post (nI o) (nI rd) (nI ra) (nI rb) len tops bots yc → wpY_apply post (len, tops, bots, yc) (nI o) (nI rd) (nI ra) (nI rb) := fun post h => br_f c0 (br_f c3 (gf_isY1 hd (br_f gf_ne10 (gf_isY1 ha (br_f gf_ne10 (gf_isY1 hb (br_f gf_ne10 (br_f n3 h))))))))
    rcases (show o = 0 ∨ o = 1 ∨ o = 2 by omega) with rfl | rfl | rfl
    · exact gf_apX0 hd ha hb I oa ob ta ba tb' bb ga gb qq (YW := fun post => wpY_apply post (len, tops, bots, yc) (nI 0) (nI rd) (nI ra) (nI rb)) Yp
    · exact gf_apX1 hd ha hb I oa ob ta ba tb' bb ga gb qq (YW := fun post => wpY_apply post (len, tops, bots, yc) (nI 1) (nI rd) (nI ra) (nI rb)) Yp
    · exact gf_apX2 hd ha hb I oa ob ta ba tb' bb ga gb qq (YW := fun post => wpY_apply post (len, tops, bots, yc) (nI 2) (nI rd) (nI ra) (nI rb)) Yp
end
section
/-! transform -/
def gf_tg (m : Nat) : Prop := m % 1000 ≤ 99 ∧ m / 1000 % 1000 ≤ 99 ∧ m / 1000000 % 1000 ≤ 99 ∧ m / 1000000000 ≤ 99
theorem gf_1000 : (1000 : Int64) = lN 1000 := by decide
theorem gf_99 : (99 : Int64) = lN 99 := by decide
theorem gf_z1000 : ¬ (1000 : Int64) = 0 := by decide
section
variable {post : Int32 → SX → Prop} {x1 x2 : Int32} {ov : Int32} {vt vb : Int64} {cnt chn : Nat → Int32} {tb : Nat → Int64}
theorem gf_tr31 {x5 : Int64} (K : ∀ tb' : Nat → Int64, (∀ i, i < 8 → tb' i = 0) → ∃ n55 : Nat, wX_transform_55 post x1 x2 ov vt vb n55 x5 3 cnt chn tb') : ∀ (d k n : Nat) (tb : Nat → Int64), k + d = 8 → d < n → (∀ i, i < k → tb i = 0) → wX_transform_31 post x1 x2 x5 ov vt vb n (nI k) cnt chn tb := by
  intro d
  induction d with
  | zero =>
    intro k n tb hk hn h
    obtain ⟨n, rfl⟩ : ∃ m, n = m + 1 := ⟨n - 1, by omega⟩
    have : k = 8 := by omega
    subst this
    exact br_t (by decide) (K tb h)
  | succ d ih =>
    intro k n tb hk hn h
    obtain ⟨n, rfl⟩ : ∃ m, n = m + 1 := ⟨n - 1, by omega⟩
    refine br_f (nI_ge (b := 8) (by omega) (by omega)) (And.intro (vp_in_nI (by omega) (by omega)) (nm_r (e' := vp_updL tb k 0) ?_ (nm_r (nI_1 k) (ih (k + 1) n _ (by omega) (by omega) ?_))))
    · rw [nI_clamp (by omega)]
    · intro r hr
      by_cases c : r = k
      · subst c
        exact pk_uLs
      · rw [pk_uLn c]
        exact h r (by omega)
theorem gf_tr_s {j m n : Nat} (hj : j ≤ 3) (hm : m < 2 ^ 63) (hB : 99 < m % 1000 → post (-1000000) (ov, vt, vb, cnt, chn, tb)) (hC : m % 1000 ≤ 99 → wX_transform_55 post x1 x2 ov vt vb n (lN (m / 1000)) (nI j + (-1)) cnt chn (vp_updL tb (2 * j + 1) (lN (m % 1000)))) : wX_transform_55 post x1 x2 ov vt vb (n + 1) (lN m) (nI j) cnt chn tb := by
  have e1 : lN m - lN m / 1000 * 1000 = lN (m % 1000) := pk_lRem (b := 1000) hm (by omega) (by omega)
  have e2 : lN m / 1000 = lN (m / 1000) := pk_lDiv (b := 1000) hm (by omega) (by omega)
  have e3 : lN (m % 1000) ≤ 99 ↔ m % 1000 ≤ 99 := pk_lLE (b := 99) (by omega) (by omega)
  have e4 : (2 : Int32) * nI j + 1 = nI (2 * j + 1) := by
    have : (2 : Int32) * nI j = nI (2 * j) := pk_mul 2 j
    rw [this, nI_1]
  refine br_f (nI_pos (by omega)) (And.intro gf_z1000 (nm_r e1 (ek_if e3 (fun z => ?_) (fun z => hB (by omega)))))
  rw [e4, nI_clamp (by omega)]
  exact And.intro (vp_in_nI (by omega) (by omega)) (nm_e (And.intro gf_z1000 (nm_r e2 (nm_e (hC z)))))
theorem gf_tr55 {m : Nat} (hm : m < 2 ^ 63) (z : ∀ i, i < 8 → tb i = 0) (hB : ∀ tb' : Nat → Int64, ¬ gf_tg m → post (-1000000) (ov, vt, vb, cnt, chn, tb'))
  (hG : gf_tg m → ∀ tb' : Nat → Int64, gf_tab tb' 0 (m / 1000000000 : Nat) 0 (m / 1000000 % 1000 : Nat) 0 (m / 1000 % 1000 : Nat) 0 (m % 1000 : Nat) → wX_transform_55 post x1 x2 ov vt vb 1 0 (-1) cnt chn tb') : wX_transform_55 post x1 x2 ov vt vb 5 (lN m) 3 cnt chn tb := by
  refine gf_tr_s (j := 3) (by omega) hm (fun b => hB _ fun w => by have := w.1; omega) fun g1 => ?_
  rw [show nI 3 + (-1) = nI 2 by decide]
  refine gf_tr_s (j := 2) (by omega) (by omega) (fun b => hB _ fun w => by have := w.2.1; omega) fun g2 => ?_
  rw [show nI 2 + (-1) = nI 1 by decide]
  refine gf_tr_s (j := 1) (by omega) (by omega) (fun b => hB _ fun w => by have := w.2.2.1; omega) fun g3 => ?_
  rw [show nI 1 + (-1) = nI 0 by decide]
  refine gf_tr_s (j := 0) (by omega) (by omega) (fun b => hB _ fun w => by have := w.2.2.2; omega) fun g4 => ?_
  rw [show nI 0 + (-1) = -1 by decide]
  by_cases g : gf_tg m
  · have e : m / 1000 / 1000 / 1000 / 1000 = 0 := by have := g.2.2.2; omega
    rw [e]
    refine hG g _ ?_
    have z0 : tb 0 = 0 := z 0 (by decide)
    have z2 : tb 2 = 0 := z 2 (by decide)
    have z4 : tb 4 = 0 := z 4 (by decide)
    have z6 : tb 6 = 0 := z 6 (by decide)
    refine ⟨?_, ?_, ?_, ?_, ?_, ?_, ?_, ?_⟩
    · simp (disch := decide) only [pk_uLs, pk_uLn, z0]
      exact gf_l0
    · show vp_updL _ 1 _ 1 = _
      rw [pk_uLs, gf_lN]
      congr 1
      have := g.2.2.2
      omega
    · simp (disch := decide) only [pk_uLs, pk_uLn, z2]
      exact gf_l0
    · show vp_updL (vp_updL _ 3 _) 1 _ 3 = _
      rw [pk_uLn (by decide), pk_uLs, gf_lN]
      congr 1
      omega
    · simp (disch := decide) only [pk_uLs, pk_uLn, z4]
      exact gf_l0
    · show vp_updL (vp_updL (vp_updL _ 5 _) 3 _) 1 _ 5 = _
      rw [pk_uLn (by decide), pk_uLn (by decide), pk_uLs, gf_lN]
    · simp (disch := decide) only [pk_uLs, pk_uLn, z6]
      exact gf_l0
    · show vp_updL (vp_updL (vp_updL (vp_updL _ 7 _) 5 _) 3 _) 1 _ 7 = _
      rw [pk_uLn (by decide), pk_uLn (by decide), pk_uLn (by decide), pk_uLs, gf_lN]
  · have e : ¬ lN (m / 1000 / 1000 / 1000 / 1000) = 0 := fun w => by
      have := (pk_lEQ (a := m / 1000 / 1000 / 1000 / 1000) (b := 0) (by omega) (by omega)).mp w
      exact g ⟨by omega, by omega, by omega, by omega⟩
    exact br_t (by decide) (br_f e (hB _ g))
end
theorem gf_tY83 {post : Int32 → SY → Prop} {x1 x2 : Int32} {x5 x7 x9 x11 : Int64} {len : Int32} {tops bots yc : Nat → Int32} (h : post (-1000000) (len, tops, bots, yc)) : wY_transform_83 post x1 x2 x5 x7 x9 x11 0 len tops bots yc := by
  unfold wY_transform_83
  by_cases h1 : gf_rg x1
  · obtain ⟨r, hr, rfl⟩ := h1
    by_cases h2 : gf_rg x2
    · obtain ⟨s, hs, rfl⟩ := h2
      exact gf_isY1 hr (br_f gf_ne10 (gf_isY1 hs (br_f gf_ne10 (br_t rfl h))))
    · exact gf_isY1 hr (br_f gf_ne10 (gf_isY0 h2 (br_t rfl h)))
  · exact gf_isY0 h1 (br_t rfl h)
theorem gf_tY83r {post : Int32 → SY → Prop} {x1 x2 : Int32} {x5 x7 x9 x11 : Int64} {z0 : Int32} {len : Int32} {tops bots yc : Nat → Int32} (hr : ¬ (gf_rg x1 ∧ gf_rg x2)) (h : post (-1000000) (len, tops, bots, yc)) : wY_transform_83 post x1 x2 x5 x7 x9 x11 z0 len tops bots yc := by
  unfold wY_transform_83
  by_cases h1 : gf_rg x1
  · by_cases h2 : gf_rg x2
    · exact absurd ⟨h1, h2⟩ hr
    · obtain ⟨r, hr4, rfl⟩ := h1
      exact gf_isY1 hr4 (br_f gf_ne10 (gf_isY0 h2 (br_t rfl h)))
  · exact gf_isY0 h1 (br_t rfl h)
theorem gf_z9 : ¬ (1000000000 : Int64) = 0 := by decide
theorem gf_z6 : ¬ (1000000 : Int64) = 0 := by decide
/-- the reference's transform: bad in any way, or good -/
theorem gf_tY_bad {post : Int32 → SY → Prop} {x1 x2 : Int32} {c : Int64} {len : Int32} {tops bots yc : Nat → Int32} (hb : c < 0 ∨ ¬ (gf_rg x1 ∧ gf_rg x2)) (h : post (-1000000) (len, tops, bots, yc)) : wpY_transform post (len, tops, bots, yc) x1 x2 c := by
  refine And.intro gf_z9 (nm_e (And.intro gf_z6 (And.intro gf_z1000 (nm_e (And.intro gf_z1000 (And.intro gf_z1000 (nm_e (And.intro gf_z1000 (nm_e ?_)))))))))
  refine br_c (fun _ => gf_tY83 h) fun z0 => ?_
  rcases hb with hb | hb
  · exact absurd hb z0
  · exact br_c (fun _ => gf_tY83 h) fun _ => br_c (fun _ => gf_tY83 h) fun _ => br_c (fun _ => gf_tY83 h) fun _ => br_c (fun _ => gf_tY83 h) fun _ => gf_tY83r hb h
theorem gf_tY {post : Int32 → SY → Prop} {x1 x2 : Int32} {m : Nat} (hm : m < 2 ^ 63) {len : Int32} {tops bots yc : Nat → Int32} (hB : ¬ gf_tg m → post (-1000000) (len, tops, bots, yc)) (hG : gf_tg m → wY_transform_83 post x1 x2 (lN (m / 1000000000)) (lN (m / 1000000 % 1000)) (lN (m / 1000 % 1000)) (lN (m % 1000)) 1 len tops bots yc) : wpY_transform post (len, tops, bots, yc) x1 x2 (lN m) := by
  have d9 : lN m / 1000000000 = lN (m / 1000000000) := pk_lDiv (b := 1000000000) hm (by omega) (by omega)
  have d6 : lN m / 1000000 = lN (m / 1000000) := pk_lDiv (b := 1000000) hm (by omega) (by omega)
  have d3 : lN m / 1000 = lN (m / 1000) := pk_lDiv (b := 1000) hm (by omega) (by omega)
  have r6 : lN m / 1000000 - lN m / 1000000 / 1000 * 1000 = lN (m / 1000000 % 1000) := by
    rw [d6]
    exact pk_lRem (b := 1000) (by omega) (by omega) (by omega)
  have r3 : lN m / 1000 - lN m / 1000 / 1000 * 1000 = lN (m / 1000 % 1000) := by
    rw [d3]
    exact pk_lRem (b := 1000) (by omega) (by omega) (by omega)
  have r0 : lN m - lN m / 1000 * 1000 = lN (m % 1000) := pk_lRem (b := 1000) hm (by omega) (by omega)
  refine And.intro gf_z9 (nm_r d9 (And.intro gf_z6 (And.intro gf_z1000 (nm_r r6 (And.intro gf_z1000 (And.intro gf_z1000 (nm_r r3 (And.intro gf_z1000 (nm_r r0 ?_)))))))))
  have c0 : ¬ lN m < 0 := fun w => by
    have := (pk_lLT (b := 0) hm (by omega)).mp w
    omega
  refine br_f c0 ?_
  refine ek_if (pk_lLT (a := 99) (by omega) (by omega)) (fun z => gf_tY83 (hB fun w => by have := w.2.2.2; omega)) fun z1 => ?_
  refine ek_if (pk_lLT (a := 99) (by omega) (by omega)) (fun z => gf_tY83 (hB fun w => by have := w.2.2.1; omega)) fun z2 => ?_
  refine ek_if (pk_lLT (a := 99) (by omega) (by omega)) (fun z => gf_tY83 (hB fun w => by have := w.2.1; omega)) fun z3 => ?_
  refine ek_if (pk_lLT (a := 99) (by omega) (by omega)) (fun z => gf_tY83 (hB fun w => by have := w.1; omega)) fun z4 => ?_
  exact hG ⟨by omega, by omega, by omega, by omega⟩
theorem gf_tYg {post : Int32 → SY → Prop} {len : Int32} {tops bots yc : Nat → Int32} {rd ra : Nat} (hd : rd < 4) (ha : ra < 4) {p q A B P Q : Int} (ok : gf_ok p q) (ta : tops ra = gf_i p) (ba : bots ra = gf_i q) {K L M N : Nat} (hK : K ≤ 99) (hL : L ≤ 99) (hM : M ≤ 99) (hN : N ≤ 99) (eA : A = K * p + L * q) (eB : B = M * p + N * q) (BA : gf_B A) (BB : gf_B B) (hP : P = (gf_ev (gf_cf A B)).1) (hQ : Q = (gf_ev (gf_cf A B)).2) (hz : B = 0 → post (-1000001) (len, tops, bots, yc)) (h0 : B ≠ 0 → ¬ gf_sm P Q → post (-1000002) (len, tops, bots, yc)) (h1 : B ≠ 0 → gf_sm P Q → ∀ (len' : Int32) (yc' : Nat → Int32), post (nI (gf_cf P Q).length) (len', upd tops rd (gf_i P), upd bots rd (gf_i Q), yc')) : wY_transform_83 post (nI rd) (nI ra) (lN K) (lN L) (lN M) (lN N) 1 len tops bots yc := by
  obtain ⟨a1, a2, a3, a4, a5⟩ := ok
  have va : vp_in (nI ra) 4 := vp_in_nI (by omega) (by omega)
  have e1 : (tops (nI ra).toNatClampNeg).toInt64 = gf_l p := by rw [nI_clamp (by omega), ta, gf_i_l ⟨by omega, by omega⟩]
  have e2 : (bots (nI ra).toNatClampNeg).toInt64 = gf_l q := by rw [nI_clamp (by omega), ba, gf_i_l ⟨by omega, by omega⟩]
  have x1 : lN M * (tops (nI ra).toNatClampNeg).toInt64 + lN N * (bots (nI ra).toNatClampNeg).toInt64 = gf_l B := by
    rw [e1, e2, ← gf_lN, ← gf_lN, gf_l_mul, gf_l_mul, gf_l_add, eB]
  have x2 : lN K * (tops (nI ra).toNatClampNeg).toInt64 + lN L * (bots (nI ra).toNatClampNeg).toInt64 = gf_l A := by
    rw [e1, e2, ← gf_lN, ← gf_lN, gf_l_mul, gf_l_mul, gf_l_add, eA]
  unfold wY_transform_83
  refine gf_isY1 hd (br_f gf_ne10 (gf_isY1 ha (br_f gf_ne10 (br_f gf_ne10 (And.intro va (And.intro va (nm_r x1 (ek_if (gf_eq0 BB) hz fun z => And.intro va (And.intro va ?_)))))))))
  exact gf_store_e hd x2 rfl BA BB z hP hQ (fun ns => br_t rfl (h0 z ns)) (fun s => br_f gf_ne10 (gf_termsY hd (gf_sm_ok z hP hQ s).1 pk_us pk_us (fun yc' _ => h1 z s _ yc')))
theorem i_vc_transform {k : Nat} {u : SX} {v : SY} (I : i_Rel k u v) (hk : k + 5 ≤ 2560) (v1 : Int32) (v2 : Int32) (a2 : Int64) : wpX_transform (fun r u' => wpY_transform (fun r' v' => r' = r ∧ i_Rel (k + 5) u' v') v v1 v2 a2) u v1 v2 a2 := by
  obtain ⟨ov, vt, vb, cnt, chn, tb⟩ := u
  obtain ⟨len, tops, bots, yc⟩ := v
  unfold wpX_transform
  by_cases hd : gf_rg v1
  case neg => exact gf_isX0 hd (br_t rfl (gf_tY_bad (Or.inr fun w => hd w.1) ⟨rfl, I⟩))
  obtain ⟨rd, hd, rfl⟩ := hd
  by_cases ha : gf_rg v2
  case neg => exact gf_isX1 hd (br_f gf_ne10 (gf_isX0 ha (br_t rfl (gf_tY_bad (Or.inr fun w => ha w.2) ⟨rfl, I⟩))))
  obtain ⟨ra, ha, rfl⟩ := ha
  refine gf_isX1 hd (br_f gf_ne10 (gf_isX1 ha (br_f gf_ne10 (br_c (fun z => ?_) (fun z => gf_tY_bad (Or.inl (Int64.not_le.mp z)) ⟨rfl, I⟩)))))
  obtain ⟨m, hm, rfl⟩ := pk_lOf (x := a2) (Int64.not_lt.mpr z)
  obtain ⟨p, q, ok, ta, ba, ga⟩ := I ra ha
  obtain ⟨a1, a2, a3, a4, a5⟩ := id ok
  refine ⟨9, gf_tr31 (fun tb' z8 => ⟨5, gf_tr55 hm z8 (fun tb' ng => gf_tY hm (fun _ => ⟨rfl, I⟩) (fun g => absurd g ng)) (fun g tb' T => ?_)⟩) 8 0 9 tb (by omega) (by omega) (fun i hi => absurd hi (Nat.not_lt_zero i))⟩
  obtain ⟨g1, g2, g3, g4⟩ := id g
  generalize hK : m / 1000000000 = K at *
  generalize hL : m / 1000000 % 1000 = L at *
  generalize hM : m / 1000 % 1000 = M at *
  generalize hN : m % 1000 = N at *
  have m1 := gf_mb (x := K) (y := p) (A := 99) (B := 9999) (by omega) (by omega) a1 a2
  have m2 := gf_mb (x := L) (y := q) (A := 99) (B := 9999) (by omega) (by omega) (by omega) a4
  have m3 := gf_mb (x := M) (y := p) (A := 99) (B := 9999) (by omega) (by omega) a1 a2
  have m4 := gf_mb (x := N) (y := q) (A := 99) (B := 9999) (by omega) (by omega) (by omega) a4
  have BA : gf_B (K * p + L * q) := ⟨by omega, by omega⟩
  have BB : gf_B (M * p + N * q) := ⟨by omega, by omega⟩
  have T5 := T.2.2.2.2.2.1
  have T7 := T.2.2.2.2.2.2.2
  refine br_t (by decide) (br_t rfl (And.intro (vp_in_nI (by omega) (by omega)) ?_))
  refine gf_eval (L := gf_cf p q) (by omega) (gf_ok_ne ok) (by have := gf_ok_len ok; omega) ga.2 (gf_ok_S ok) (by rw [nI_clamp (by omega)]; exact ga.1) ?_
  have ez : tb' 5 * gf_l (gf_ev (gf_cf p q)).1 + tb' 7 * gf_l (gf_ev (gf_cf p q)).2 = 0 ↔ (M : Int) * p + N * q = 0 := by
    rw [gf_ok_ev ok, T5, T7, gf_l_mul, gf_l_mul, gf_l_add]
    exact gf_eq0 BB
  refine ek_if ez (fun z => ?_) (fun z => ?_)
  · refine gf_tY hm (fun ng => absurd g ng) (fun _ => ?_)
    rw [hK, hL, hM, hN]
    exact gf_tYg hd ha ok ta ba g4 g3 g2 g1 rfl rfl BA BB rfl rfl (fun _ => ⟨rfl, I⟩) (fun w => absurd z w) (fun w => absurd z w)
  · have q0 : q ≠ 0 := by omega
    refine gf_runX (N := q * (K * p + L * q)) (D := q * (M * p + N * q)) ha ha ok ok ga ga T ⟨by omega, by omega, by omega, by omega, by omega, by omega, by omega, by omega⟩ ⟨by omega, by omega, by omega, by omega, by omega, by omega, by omega, by omega⟩ (by unfold gf_F; grind) (by unfold gf_F; grind) (Int.mul_ne_zero q0 z) fun ov vt vb cnt' chn' tb R => ?_
    rw [gf_cf_scale _ _ q0] at R
    refine gf_kp (k := k) (YW := fun post => wpY_transform post (len, tops, bots, yc) (nI rd) (nI ra) (lN m)) (yc := yc) (len := len) hd I z BA BB rfl rfl (fun post h0 h1 => gf_tY hm (fun ng => absurd g ng) (fun _ => ?_)) (fun r u' h => ?_) R
    · rw [hK, hL, hM, hN]
      exact gf_tYg hd ha ok ta ba g4 g3 g2 g1 rfl rfl BA BB rfl rfl (fun w => absurd w z) (fun _ => h0) (fun _ => h1)
    · obtain ⟨_, _, _, _, _, _⟩ := u'
      exact h
end
section
/-! cut: the beginning of a chain, its last 1 melted -/
def gf_ml : List Int → List Int
  | [] => []
  | a :: l => if l = [1] then [a + 1] else a :: gf_ml l
theorem gf_ml_1 (a : Int) : gf_ml [a, 1] = [a + 1] := if_pos rfl
theorem gf_ml_c {a : Int} {l : List Int} (h : l ≠ [1]) : gf_ml (a :: l) = a :: gf_ml l := if_neg h
theorem gf_ml_ev : ∀ l : List Int, gf_ev (gf_ml l) = gf_ev l := by
  intro l
  induction l with
  | nil => rfl
  | cons a l ih =>
    by_cases c : l = [1]
    · subst c
      rw [gf_ml_1]
      show ((a + 1) * 1 + 0, (1 : Int)) = (a * (1 * 1 + 0) + 1, 1 * 1 + 0)
      rw [show (a + 1) * 1 + 0 = a * (1 * 1 + 0) + 1 by omega]
      rfl
    · rw [gf_ml_c c]
      show (a * (gf_ev (gf_ml l)).1 + (gf_ev (gf_ml l)).2, (gf_ev (gf_ml l)).1) = _
      rw [ih]
      rfl
theorem gf_ml_tl : ∀ (l : List Int) (a : Int), (∀ x, x ∈ l → 1 ≤ x) → ∃ a' l', gf_ml (a :: l) = a' :: l' ∧ gf_tl l' ∧ (a' = a ∨ a' = a + 1) ∧ (l' = [] → (l = [] ∨ a' = a + 1)) := by
  intro l
  induction l with
  | nil =>
    intro a _
    exact ⟨a, [], gf_ml_c (fun z => List.cons_ne_nil _ _ z.symm), trivial, Or.inl rfl, fun _ => Or.inl rfl⟩
  | cons b l ih =>
    intro a h
    by_cases c : b :: l = [1]
    · rw [c]
      exact ⟨a + 1, [], gf_ml_1 a, trivial, Or.inr rfl, fun _ => Or.inr rfl⟩
    · obtain ⟨b', l', e, t, k1, k2⟩ := ih b (fun x hx => h x (List.mem_cons_of_mem _ hx))
      have hb := h b List.mem_cons_self
      rw [gf_ml_c c, e]
      refine ⟨a, b' :: l', rfl, ⟨by omega, fun z => ?_, t⟩, Or.inl rfl, fun z => absurd z (List.cons_ne_nil _ _)⟩
      rcases k2 z with z2 | z2
      · subst z2
        have : b ≠ 1 := fun w => c (by rw [w])
        omega
      · omega
theorem gf_ml_same : ∀ l : List Int, (l.length < 2 ∨ l.getD (l.length - 1) 0 ≠ 1) → gf_ml l = l := by
  intro l
  induction l with
  | nil => exact fun _ => rfl
  | cons a l ih =>
    intro h
    cases l with
    | nil => exact gf_ml_c (fun z => List.cons_ne_nil _ _ z.symm)
    | cons b l =>
      have h' : (b :: l).getD ((b :: l).length - 1) 0 ≠ 1 := by
        rcases h with h | h
        · rw [List.length_cons, List.length_cons] at h
          omega
        · exact h
      have c : b :: l ≠ [1] := fun z => by
        rw [z] at h'
        exact h' rfl
      rw [gf_ml_c c, ih (Or.inr h')]
theorem gf_ml_last : ∀ l : List Int, 2 ≤ l.length → l.getD (l.length - 1) 0 = 1 → (gf_ml l).length = l.length - 1 ∧ (∀ i, i < l.length - 2 → (gf_ml l).getD i 0 = l.getD i 0) ∧ (gf_ml l).getD (l.length - 2) 0 = l.getD (l.length - 2) 0 + 1 := by
  intro l
  induction l with
  | nil =>
    intro h
    rw [List.length_nil] at h
    omega
  | cons a l ih =>
    intro h2 hl
    by_cases c : l = [1]
    · subst c
      rw [gf_ml_1]
      exact ⟨rfl, fun i hi => absurd hi (Nat.not_lt_zero i), rfl⟩
    · rw [gf_ml_c c]
      cases l with
      | nil =>
        rw [List.length_singleton] at h2
        omega
      | cons b l =>
        cases l with
        | nil =>
          refine absurd ?_ c
          have : b = 1 := hl
          rw [this]
        | cons d l =>
          obtain ⟨k1, k2, k3⟩ := ih (by rw [List.length_cons, List.length_cons]; omega) hl
          simp only [List.length_cons] at k1 k2 k3 ⊢
          refine ⟨by omega, fun i hi => ?_, ?_⟩
          · cases i with
            | zero => rfl
            | succ i => exact k2 i (by omega)
          · rw [show l.length + 1 + 1 + 1 - 2 = (l.length + 1 + 1 - 2) + 1 by omega]
            exact k3
theorem gf_gd_take {L : List Int} {t i : Nat} (h : i < t) : (L.take t).getD i 0 = L.getD i 0 := by
  rw [List.getD_eq_getElem?_getD, List.getD_eq_getElem?_getD, List.getElem?_take_of_lt h]
theorem gf_at_take {chn : Nat → Int32} {b t : Nat} {L : List Int} (h : gf_at chn b L) : gf_at chn b (L.take t) := by
  intro i hi
  rw [List.length_take] at hi
  rw [gf_gd_take (by omega)]
  exact h i (by omega)
section
variable {post : SX → Prop} {ov : Int32} {vt vb : Int64} {cnt chn cnt0 chn0 : Nat → Int32} {tb : Nat → Int64}
theorem gf_copyr {r : Nat} (hr : r < 4) {T : List Int} (hT : T.length ≤ 22) (hat : gf_at chn (24 * r) T) {m : Int32} (hm : m = nI T.length) (K : ∀ cnt' chn' : Nat → Int32, gf_fr cnt chn cnt' chn' → cnt' 4 = nI T.length → gf_at chn' 96 T → post (ov, vt, vb, cnt', chn', tb)) : wpX_copyChain post (ov, vt, vb, cnt, chn, tb) 4 (nI r) m := by
  refine gf_copy (to := 4) (fr := r) (m := T.length) (by omega) (by omega) (by omega) (by omega) hm fun chn' e1 e2 => K _ _ ⟨fun s hs => pk_un (by omega), fun x hx => e2 x (by omega)⟩ pk_us fun i hi => ?_
  rw [show 96 + i = 24 * 4 + i by omega, e1 i hi]
  exact hat i hi
theorem gf_meltL {T : List Int} (fr : gf_fr cnt0 chn0 cnt chn) (hk : cnt 4 = nI T.length) (hT : T.length ≤ 22) (rg : ∀ x, x ∈ T → -9999 ≤ x ∧ x ≤ 9999) (hat : gf_at chn 96 T) (K : ∀ cnt' chn' : Nat → Int32, gf_fr cnt0 chn0 cnt' chn' → cnt' 4 = nI (gf_ml T).length → gf_at chn' 96 (gf_ml T) → post (ov, vt, vb, cnt', chn', tb)) : wpX_meltLastOne post (ov, vt, vb, cnt, chn, tb) := by
  have one : 0 < T.length → (chn (96 + (T.length - 1)) = 1 ↔ T.getD (T.length - 1) 0 = 1) := fun h => by
    have := rg _ (gf_getD_mem (L := T) (i := T.length - 1) (by omega))
    rw [hat _ (by omega), gf_i1]
    exact gf_i_eq ⟨by omega, by omega⟩ ⟨by omega, by omega⟩
  refine gf_melt hk hT (fun h => ?_) (fun h2 h1 => ?_)
  · have e : gf_ml T = T := by
      apply gf_ml_same
      by_cases c : T.length < 2
      · exact Or.inl c
      · rcases h with h | h
        · exact Or.inl h
        · exact Or.inr fun z => h ((one (by omega)).mpr z)
    refine K cnt chn fr ?_ ?_
    · rw [e]
      exact hk
    · rw [e]
      exact hat
  · obtain ⟨k1, k2, k3⟩ := gf_ml_last T h2 ((one (by omega)).mp h1)
    refine K _ _ (gf_fr_app fr (by omega) (by omega)) ?_ ?_
    · rw [pk_us, k1]
    · intro i hi
      by_cases c : i = T.length - 2
      · subst c
        rw [pk_us, hat _ (by omega), k3, gf_i1, gf_i_add]
      · rw [pk_un (by omega), hat _ (by omega), k2 i (by omega)]
end
/-! the values of beginnings -/
theorem gf_pfx : ∀ (l : List Int) (t : Nat), gf_tl l → 1 ≤ (gf_ev (l.take t)).1 ∧ (gf_ev (l.take t)).1 ≤ (gf_ev l).1 ∧ 0 ≤ (gf_ev (l.take t)).2 ∧ (gf_ev (l.take t)).2 ≤ (gf_ev l).2 ∧ (gf_ev (l.take t)).2 ≤ (gf_ev (l.take t)).1 ∧ (gf_ev (l.take t)).1 - (gf_ev (l.take t)).2 ≤ (gf_ev l).1 - (gf_ev l).2 := by
  intro l
  induction l with
  | nil =>
    intro t _
    rw [List.take_nil]
    decide
  | cons a l ih =>
    intro t h
    cases t with
    | zero =>
      obtain ⟨k1, k2, _⟩ := gf_tl_ev _ h
      rw [List.take_zero]
      show (1 : Int) ≤ 1 ∧ (1 : Int) ≤ _ ∧ (0 : Int) ≤ 0 ∧ (0 : Int) ≤ _ ∧ (0 : Int) ≤ 1 ∧ (1 : Int) - 0 ≤ _
      omega
    | succ t =>
      obtain ⟨h1, h2, h3⟩ := h
      obtain ⟨i1, i2, i3, i4, i5, i6⟩ := ih t h3
      rw [List.take_succ_cons, gf_ev_1, gf_ev_2, gf_ev_1, gf_ev_2]
      generalize (gf_ev (l.take t)).1 = x at *
      generalize (gf_ev (l.take t)).2 = y at *
      generalize (gf_ev l).1 = X at *
      generalize (gf_ev l).2 = Y at *
      have m1 : 1 * x ≤ a * x := Int.mul_le_mul_of_nonneg_right h1 (by omega)
      have m2 : (a - 1) * x ≤ (a - 1) * X := Int.mul_le_mul_of_nonneg_left i2 (by omega)
      rw [Int.sub_mul, Int.sub_mul] at m2
      exact ⟨by omega, by omega, by omega, by omega, by omega, by omega⟩
theorem gf_pb {a x y X Y M : Int} (i1 : 1 ≤ x) (i2 : x ≤ X) (i3 : 0 ≤ y) (i4 : y ≤ Y) (i5 : y ≤ x) (i6 : x - y ≤ X - Y) (h1 : -M ≤ a * X + Y) (h2 : a * X + Y ≤ M) : -M ≤ a * x + y ∧ a * x + y ≤ M := by
  by_cases c : 0 ≤ a
  · have m1 : 0 ≤ a * x := Int.mul_nonneg c (by omega)
    have m2 : a * x ≤ a * X := Int.mul_le_mul_of_nonneg_left i2 c
    exact ⟨by omega, by omega⟩
  · have m1 : (-a - 1) * x ≤ (-a - 1) * X := Int.mul_le_mul_of_nonneg_left i2 (by omega)
    have m2 : 0 ≤ (-a - 1) * x := Int.mul_nonneg (by omega) (by omega)
    rw [Int.sub_mul, Int.sub_mul, Int.neg_mul, Int.neg_mul] at m1
    rw [Int.sub_mul, Int.neg_mul] at m2
    exact ⟨by omega, by omega⟩
theorem gf_cut_b {p q : Int} (ok : gf_ok p q) {t : Nat} (ht : 1 ≤ t) : gf_ok (gf_ev ((gf_cf p q).take t)).1 (gf_ev ((gf_cf p q).take t)).2 ∧ gf_cf (gf_ev ((gf_cf p q).take t)).1 (gf_ev ((gf_cf p q).take t)).2 = gf_ml ((gf_cf p q).take t) := by
  obtain ⟨l, e, tl⟩ := gf_cf_tail (p := p) (q := q) (by have := ok.2.2.1; omega)
  have ev := gf_ok_ev ok
  have cop := gf_ev_cop ((gf_cf p q).take t)
  obtain ⟨t, rfl⟩ : ∃ s, t = s + 1 := ⟨t - 1, by omega⟩
  rw [e] at ev cop ⊢
  have ps : ∀ l : List Int, gf_tl l → ∀ x, x ∈ l → 1 ≤ x := by
    intro l
    induction l with
    | nil => exact fun _ x hx => absurd hx List.not_mem_nil
    | cons a l ih =>
      intro h x hx
      rcases List.mem_cons.mp hx with hx | hx
      · subst hx
        exact h.1
      · exact ih h.2.2 x hx
  rw [List.take_succ_cons] at cop ⊢
  obtain ⟨i1, i2, i3, i4, i5, i6⟩ := gf_pfx l t tl
  constructor
  · have e1 := congrArg Prod.fst ev
    have e2 := congrArg Prod.snd ev
    rw [gf_ev_1] at e1
    rw [gf_ev_2] at e2
    dsimp only at e1 e2
    obtain ⟨o1, o2, o3, o4, o5⟩ := ok
    have b := gf_pb (a := p.fdiv q) (M := 9999) i1 i2 i3 i4 i5 i6 (by omega) (by omega)
    refine ⟨by rw [gf_ev_1]; exact b.1, by rw [gf_ev_1]; exact b.2, by rw [gf_ev_2]; exact i1, by rw [gf_ev_2]; omega, cop⟩
  · obtain ⟨a', l', k1, k2, _⟩ := gf_ml_tl (l.take t) (p.fdiv q) (fun x hx => ps l tl x (List.mem_of_mem_take hx))
    rw [← gf_ml_ev, k1]
    exact gf_cf_ev k2
end
section
/-! cut, the walk -/
theorem gf_cutX {post : Int32 → SX → Prop} {ov : Int32} {vt vb : Int64} {cnt chn : Nat → Int32} {tb : Nat → Int64} {rd ra : Nat} (hd : rd < 4) (ha : ra < 4) {p q : Int} (ok : gf_ok p q) (ga : gf_reg cnt chn ra p q) {t : Nat} (ht : 1 ≤ t) {m : Int32} (hm : m = nI ((gf_cf p q).take t).length) (K : ∀ cnt' chn' : Nat → Int32, gf_upd cnt chn cnt' chn' rd (gf_ml ((gf_cf p q).take t)) → post (nI (gf_ml ((gf_cf p q).take t)).length) (ov, vt, vb, cnt', chn', tb)) : wX_cut_44 post (nI rd) (nI ra) m ov vt vb cnt chn tb := by
  have hl := gf_ok_len ok
  have hT : ((gf_cf p q).take t).length ≤ 22 := by
    rw [List.length_take]
    omega
  obtain ⟨ok', e⟩ := gf_cut_b ok ht
  have hM : (gf_ml ((gf_cf p q).take t)).length ≤ 22 := by
    rw [← e]
    have := gf_ok_len ok'
    omega
  unfold wX_cut_44
  refine gf_copyr ha hT (gf_at_take ga.2) hm fun cnt1 chn1 fr1 c1 at1 => ?_
  refine gf_meltL fr1 c1 hT (fun x hx => gf_ok_rng ok x (List.mem_of_mem_take hx)) at1 fun cnt2 chn2 fr2 c2 at2 => ?_
  refine gf_copyd hd hM fr2 at2 c2 fun cnt3 chn3 c3 up => And.intro (vp_in_nI (by omega) (by omega)) ?_
  rw [nI_clamp (by omega), c3]
  exact K cnt3 chn3 up
theorem gf_cut68 {post : Int32 → SY → Prop} {x1 : Int32} {len : Int32} {tops bots yc : Nat → Int32} {T : List Int} (hl : T.length ≤ 22) (hat : gf_at yc 0 T) (hS : ∀ x, x ∈ T → gf_S x) (h : wpY_store (fun r_24 u => match u with | (f_length_25, a_tops_26, a_bottoms_27, a_chain_28) => (wpY_terms (fun r_29 u => match u with | (f_length_30, a_tops_31, a_bottoms_32, a_chain_33) => (post r_29 (f_length_30, a_tops_31, a_bottoms_32, a_chain_33))) (f_length_25, a_tops_26, a_bottoms_27, a_chain_28) x1)) (len, tops, bots, yc) x1 (gf_l (gf_ev T).1) (gf_l (gf_ev T).2)) : ∀ (i n : Nat), i < n → i ≤ T.length → wY_cut_68 post x1 len tops bots yc n (gf_l (gf_ev (T.drop i)).1) (gf_l (gf_ev (T.drop i)).2) (gf_i ((i : Int) - 1)) := by
  intro i
  induction i with
  | zero =>
    intro n hn hi
    obtain ⟨n, rfl⟩ : ∃ m, n = m + 1 := ⟨n - 1, by omega⟩
    exact br_t (by decide) h
  | succ j ih =>
    intro n hn hi
    obtain ⟨n, rfl⟩ : ∃ m, n = m + 1 := ⟨n - 1, by omega⟩
    have e : gf_i (((j + 1 : Nat) : Int) - 1) = nI j := by
      rw [show ((j + 1 : Nat) : Int) - 1 = (j : Int) by omega, gf_nI]
    have hd := gf_drop_lt (L := T) (i := j) (by omega)
    have ht := hS _ (gf_getD_mem (L := T) (i := j) (by omega))
    rw [e]
    refine br_f (nI_pos (by omega)) (And.intro (vp_in_nI (by omega) (by omega)) (nm_r (e' := gf_l (gf_ev (T.drop j)).1) ?_ (nm_r (gf_pm j) ?_)))
    · have := hat j (by omega)
      rw [Nat.zero_add] at this
      rw [nI_clamp (by omega), this, gf_i_l ht, gf_l_mul, gf_l_add, hd]
      rfl
    · have k := ih n (by omega) (by omega)
      rw [hd] at k
      rw [hd]
      exact k
theorem gf_cutY {post : Int32 → SY → Prop} {len : Int32} {tops bots yc : Nat → Int32} {rd : Nat} (hd : rd < 4) {T : List Int} (hn : T ≠ []) (hl : T.length ≤ 22) (hat : gf_at yc 0 T) (hS : ∀ x, x ∈ T → gf_S x) {m : Int32} (hm : m = nI T.length) (ok : gf_ok (gf_ev T).1 (gf_ev T).2) (K : ∀ (len' : Int32) (yc' : Nat → Int32), post (nI (gf_cf (gf_ev T).1 (gf_ev T).2).length) (len', upd tops rd (gf_i (gf_ev T).1), upd bots rd (gf_i (gf_ev T).2), yc')) : wY_cut_45 post (nI rd) m len tops bots yc := by
  subst hm
  have h1 : 1 ≤ T.length := by
    cases T with
    | nil => exact absurd rfl hn
    | cons a l => rw [List.length_cons]; omega
  obtain ⟨k, hk⟩ : ∃ k, T.length = k + 1 := ⟨T.length - 1, by omega⟩
  have e : nI T.length - 1 = nI k := by rw [hk, nI_pred]
  have hdr := gf_drop_lt (L := T) (i := k) (by omega)
  have h2 : T.drop (k + 1) = [] := List.drop_eq_nil_iff.mpr (by omega)
  have ht := hS _ (gf_getD_mem (L := T) (i := k) (by omega))
  have hev : gf_ev (T.drop k) = (T.getD k 0, 1) := by
    rw [hdr, h2]
    show ((T.getD k 0) * 1 + 0, (1 : Int)) = _
    rw [Int.mul_one, Int.add_zero]
  have e2 : nI T.length - 2 = gf_i ((k : Int) - 1) := by
    have : (2 : Int32) = gf_i 2 := by decide
    rw [this, ← gf_nI, gf_i_sub, hk]
    exact congrArg gf_i (by omega)
  have hat' := hat k (by omega)
  rw [Nat.zero_add] at hat'
  refine And.intro ?_ (nm_r (e' := gf_l (T.getD k 0)) ?_ (nm_r e2 ⟨k + 1, ?_⟩))
  · rw [e]
    exact vp_in_nI (by omega) (by omega)
  · rw [e, nI_clamp (by omega), hat', gf_i_l ht]
  · obtain ⟨o1, o2, o3, o4, o5⟩ := id ok
    have z := gf_cut68 (post := post) (x1 := nI rd) (len := len) (tops := tops) (bots := bots) hl hat hS (gf_store hd (P := (gf_ev T).1) (Q := (gf_ev T).2) ⟨by omega, by omega⟩ ⟨by omega, by omega⟩ (by omega) (by rw [gf_ok_ev ok]) (by rw [gf_ok_ev ok]) (fun ns => absurd ⟨o1, o2, o4⟩ ns) (fun _ => gf_termsY hd ok pk_us pk_us (fun yc' _ => K _ yc'))) k (k + 1) (by omega) (by omega)
    rw [hev] at z
    exact z
theorem i_vc_cut {k : Nat} {u : SX} {v : SY} (I : i_Rel k u v) (hk : k + 5 ≤ 2560) (v1 : Int32) (v2 : Int32) (v3 : Int32) : wpX_cut (fun r u' => wpY_cut (fun r' v' => r' = r ∧ i_Rel (k + 5) u' v') v v1 v2 v3) u v1 v2 v3 := by
  obtain ⟨ov, vt, vb, cnt, chn, tb⟩ := u
  obtain ⟨len, tops, bots, yc⟩ := v
  unfold wpX_cut wpY_cut
  by_cases hd : gf_rg v1
  case neg => exact gf_isX0 hd (br_t rfl (gf_isY0 hd (br_t rfl ⟨rfl, I⟩)))
  obtain ⟨rd, hd, rfl⟩ := hd
  by_cases ha : gf_rg v2
  case neg => exact gf_isX1 hd (br_f gf_ne10 (gf_isX0 ha (br_t rfl (gf_isY1 hd (br_f gf_ne10 (gf_isY0 ha (br_t rfl ⟨rfl, I⟩)))))))
  obtain ⟨ra, ha, rfl⟩ := ha
  by_cases c1 : 1 ≤ v3
  case neg => exact gf_isX1 hd (br_f gf_ne10 (gf_isX1 ha (br_f gf_ne10 (br_f c1 (gf_isY1 hd (br_f gf_ne10 (gf_isY1 ha (br_f gf_ne10 (br_f c1 ⟨rfl, I⟩)))))))))
  obtain ⟨p, q, ok, ta, ba, ga⟩ := I ra ha
  have ga' : gf_reg cnt chn ra p q := ga
  have hl := gf_ok_len ok
  have n0 : ¬ v3 < 0 := fun z => by
    rw [Int32.le_iff_toInt_le, show (1 : Int32).toInt = 1 by decide] at c1
    rw [Int32.lt_iff_toInt_lt, show (0 : Int32).toInt = 0 by decide] at z
    omega
  obtain ⟨t, ht, rfl⟩ := nI_of n0
  have t1 : 1 ≤ t := (nI_leI (a := 1) (by omega) ht).mp c1
  have hT : ((gf_cf p q).take t).length = min t (gf_cf p q).length := List.length_take
  have Tn : (gf_cf p q).take t ≠ [] := fun z => by
    rw [z, List.length_nil] at hT
    have := gf_ok_ne ok
    have : (gf_cf p q).length ≠ 0 := fun w => this (List.eq_nil_of_length_eq_zero w)
    omega
  obtain ⟨ok', e⟩ := gf_cut_b ok t1
  have all : ∀ m : Int32, m = nI ((gf_cf p q).take t).length → ((gf_cf p q).length ≤ t → m = nI (gf_cf p q).length) → (t < (gf_cf p q).length → m = nI t) → wX_cut_44 (fun r u' => wpY_isRegister (fun r_1 => ((r_1 = 0 → ((fun r' v' => r' = r ∧ i_Rel (k + 5) u' v') (-1000000) (len, tops, bots, yc))) ∧ (¬ r_1 = 0 → (wpY_isRegister (fun r_7 => ((r_7 = 0 → ((fun r' v' => r' = r ∧ i_Rel (k + 5) u' v') (-1000000) (len, tops, bots, yc))) ∧ (¬ r_7 = 0 → (((1 ≤ nI t → (wpY_expand (fun u => match u with | (f_length_15, a_tops_16, a_bottoms_17, a_chain_18) => (((f_length_15 ≤ nI t → (wY_cut_45 (fun r' v' => r' = r ∧ i_Rel (k + 5) u' v') (nI rd) f_length_15 f_length_15 a_tops_16 a_bottoms_17 a_chain_18)) ∧ (¬ f_length_15 ≤ nI t → (wY_cut_45 (fun r' v' => r' = r ∧ i_Rel (k + 5) u' v') (nI rd) (nI t) f_length_15 a_tops_16 a_bottoms_17 a_chain_18))))) (len, tops, bots, yc) (nI ra))) ∧ (¬ 1 ≤ nI t → ((fun r' v' => r' = r ∧ i_Rel (k + 5) u' v') (-1000000) (len, tops, bots, yc)))))))) (len, tops, bots, yc) (nI ra))))) (len, tops, bots, yc) (nI rd)) (nI rd) (nI ra) m ov vt vb cnt chn tb := by
    intro m em _ _
    refine gf_cutX hd ha ok ga' t1 em fun cnt' chn' up => ?_
    refine gf_isY1 hd (br_f gf_ne10 (gf_isY1 ha (br_f gf_ne10 (br_t c1 (gf_expand ha ok ta ba fun yc' at' => ?_)))))
    have fin : ∀ m : Int32, m = nI ((gf_cf p q).take t).length → wY_cut_45 (fun r' v' => r' = nI (gf_ml ((gf_cf p q).take t)).length ∧ i_Rel (k + 5) (ov, vt, vb, cnt', chn', tb) v') (nI rd) m (nI (gf_cf p q).length) tops bots yc' := fun m em =>
      gf_cutY hd Tn (by omega) (gf_at_take at') (fun x hx => gf_ok_S ok x (List.mem_of_mem_take hx)) em ok' (fun len' yc'' => ⟨by rw [e], gf_rel_upd I up hd ok' e.symm⟩)
    exact pk_le (gf_cf p q).length t (fun z => fin _ (by rw [hT]; congr 1; omega)) (fun z => fin _ (by rw [hT]; congr 1; omega))
  refine gf_isX1 hd (br_f gf_ne10 (gf_isX1 ha (br_f gf_ne10 (br_t c1 (And.intro (vp_in_nI (by omega) (by omega)) ?_)))))
  rw [nI_clamp (by omega), show cnt ra = nI (gf_cf p q).length from ga.1]
  refine pk_le (gf_cf p q).length t (fun z => And.intro (vp_in_nI (by omega) (by omega)) ?_) (fun z => ?_)
  · exact all _ (by rw [hT]; congr 1; omega) (fun _ => rfl) (fun _ => by omega)
  · exact all _ (by rw [hT]; congr 1; omega) (fun _ => by omega) (fun _ => rfl)
end
section
/-! between: the simplest fraction -/
def gf_bt : Bool → List Int → List Int → List Int
  | _, [], _ => []
  | _, _ :: _, [] => []
  | s, a :: l, b :: m => if a = b then a :: gf_bt (!s) l m else [if s = true then (if l = [] then a else a + 1) else (if m = [] then b else b + 1)]
theorem gf_bt_n2 (s : Bool) (L : List Int) : gf_bt s L [] = [] := by
  cases L with
  | nil => rfl
  | cons a l => rfl
theorem gf_bt_n1 (s : Bool) (L : List Int) : gf_bt s [] L = [] := rfl
theorem gf_bt_e (s : Bool) (a : Int) (l m : List Int) : gf_bt s (a :: l) (a :: m) = a :: gf_bt (!s) l m := if_pos rfl
theorem gf_bt_d (s : Bool) {a b : Int} (h : a ≠ b) (l m : List Int) : gf_bt s (a :: l) (b :: m) = [if s = true then (if l = [] then a else a + 1) else (if m = [] then b else b + 1)] := if_neg h
theorem gf_bt_sw : ∀ (L M : List Int) (s : Bool), gf_bt s L M = gf_bt (!s) M L := by
  intro L
  induction L with
  | nil =>
    intro M s
    rw [gf_bt_n1, gf_bt_n2]
  | cons a l ih =>
    intro M s
    cases M with
    | nil => rfl
    | cons b m =>
      by_cases c : a = b
      · subst c
        rw [gf_bt_e, gf_bt_e, ih m (!s)]
      · rw [gf_bt_d s c, gf_bt_d (!s) (fun z => c z.symm)]
        cases s <;> rfl
theorem gf_bt_nil {s : Bool} {L M : List Int} (h : gf_bt s L M = []) : L = [] ∨ M = [] := by
  cases L with
  | nil => exact Or.inl rfl
  | cons a l =>
    cases M with
    | nil => exact Or.inr rfl
    | cons b m =>
      by_cases c : a = b
      · subst c
        rw [gf_bt_e] at h
        exact absurd h (List.cons_ne_nil _ _)
      · rw [gf_bt_d s c] at h
        exact absurd h (List.cons_ne_nil _ _)
theorem gf_w2 {p q w : Int} (hq : 0 < q) (h : q < p) (hw : p = w * q) : 2 ≤ w := by
  by_cases c : 2 ≤ w
  · exact c
  · have : w * q ≤ 1 * q := Int.mul_le_mul_of_nonneg_right (by omega) (by omega)
    omega
/-- x / y, from p / q on, up to p' / q' -/
def gf_iv (p q p' q' x y : Int) : Prop := p * y ≤ x * q ∧ x * q' ≤ p' * y
theorem gf_iv_up {w q r q' r' x y : Int} (h : gf_iv q' r' q r x y) : gf_iv (w * q + r) q (w * q' + r') q' (w * x + y) x := by
  obtain ⟨h1, h2⟩ := h
  have e1 : (w * q + r) * x = w * (q * x) + x * r := by grind
  have e2 : (w * x + y) * q = w * (q * x) + q * y := by grind
  have e3 : (w * x + y) * q' = w * (q' * x) + q' * y := by grind
  have e4 : (w * q' + r') * x = w * (q' * x) + x * r' := by grind
  exact ⟨by omega, by omega⟩
theorem gf_iv_dn {w q r q' r' x y : Int} (h : gf_iv (w * q + r) q (w * q' + r') q' x y) : gf_iv q' r' q r y (x - w * y) := by
  obtain ⟨h1, h2⟩ := h
  have e1 : (w * q + r) * y = w * (q * y) + y * r := by grind
  have e2 : q * (x - w * y) = x * q - w * (q * y) := by grind
  have e3 : q' * (x - w * y) = x * q' - w * (q' * y) := by grind
  have e4 : (w * q' + r') * y = w * (q' * y) + y * r' := by grind
  exact ⟨by omega, by omega⟩
theorem gf_cancel {x y q : Int} (hq : 0 < q) (h : x * q ≤ y * q) : x ≤ y := Int.le_of_mul_le_mul_right h hq
theorem gf_bt_T : ∀ (n : Nat) (p q p' q' : Int), q.natAbs + q'.natAbs ≤ n → 0 ≤ q → q < p → 0 ≤ q' → q' < p' → p * q' < p' * q →
    gf_tl (gf_bt true (gf_cf p q) (gf_cf p' q')) ∧ gf_iv p q p' q' (gf_ev (gf_bt true (gf_cf p q) (gf_cf p' q'))).1 (gf_ev (gf_bt true (gf_cf p q) (gf_cf p' q'))).2 ∧ ∀ x y : Int, 1 ≤ x → 0 ≤ y → gf_iv p q p' q' x y → (gf_ev (gf_bt true (gf_cf p q) (gf_cf p' q'))).1 ≤ x ∧ (gf_ev (gf_bt true (gf_cf p q) (gf_cf p' q'))).2 ≤ y := by
  intro n
  induction n with
  | zero =>
    intro p q p' q' hn h1 h2 h3 h4 h5
    have e1 : q = 0 := by omega
    have e2 : q' = 0 := by omega
    subst e1 e2
    rw [Int.mul_zero, Int.mul_zero] at h5
    omega
  | succ n ih =>
    intro p q p' q' hn h1 h2 h3 h4 h5
    by_cases c1 : q = 0
    · subst c1
      have := Int.mul_nonneg (show 0 ≤ p by omega) h3
      rw [Int.mul_zero] at h5
      omega
    by_cases c2 : q' = 0
    · subst c2
      rw [gf_cf_0 p', gf_bt_n2]
      refine ⟨trivial, ⟨?_, ?_⟩, fun x y hx hy _ => ⟨hx, hy⟩⟩
      · show p * 0 ≤ 1 * q
        omega
      · show (1 : Int) * 0 ≤ p' * 0
        omega
    have f := gf_fd_p p (b := q) (by omega)
    have f' := gf_fd_p p' (b := q') (by omega)
    have w1 := gf_w1 (by omega) h2 f.2
    have w1' := gf_w1 (by omega) h4 f'.2
    rw [gf_cf_s c1, gf_cf_s c2]
    generalize hw : p.fdiv q = w at *
    generalize hw' : p'.fdiv q' = w' at *
    generalize hr : p - w * q = r at *
    generalize hr' : p' - w' * q' = r' at *
    have ep : p = w * q + r := by omega
    have ep' : p' = w' * q' + r' := by omega
    by_cases c : w = w'
    · subst c
      rw [gf_bt_e, gf_bt_sw]
      have cr : q' * r < q * r' := by
        rw [ep, ep'] at h5
        have e1 : (w * q + r) * q' = w * (q * q') + q' * r := by grind
        have e2 : (w * q' + r') * q = w * (q * q') + q * r' := by grind
        omega
      obtain ⟨i1, i2, i3⟩ := ih q' r' q r (by omega) (by omega) (by omega) (by omega) (by omega) cr
      have nl := gf_bt_nil (s := true) (L := gf_cf q' r') (M := gf_cf q r)
      show gf_tl (w :: gf_bt true (gf_cf q' r') (gf_cf q r)) ∧ gf_iv p q p' q' (gf_ev (w :: gf_bt true (gf_cf q' r') (gf_cf q r))).1 (gf_ev (w :: gf_bt true (gf_cf q' r') (gf_cf q r))).2 ∧ ∀ x y : Int, 1 ≤ x → 0 ≤ y → gf_iv p q p' q' x y → (gf_ev (w :: gf_bt true (gf_cf q' r') (gf_cf q r))).1 ≤ x ∧ (gf_ev (w :: gf_bt true (gf_cf q' r') (gf_cf q r))).2 ≤ y
      rw [gf_ev_1, gf_ev_2]
      generalize gf_bt true (gf_cf q' r') (gf_cf q r) = R at *
      refine ⟨⟨w1, fun z => ?_, i1⟩, ?_, fun x y hx hy hv => ?_⟩
      · rcases nl z with z | z
        · have := gf_cf_nil z
          exact gf_w2 (p := p') (q := q') (by omega) h4 (by omega)
        · have := gf_cf_nil z
          exact gf_w2 (p := p) (q := q) (by omega) h2 (by omega)
      · rw [ep, ep']
        exact gf_iv_up i2
      · have y1 : 1 ≤ y := by
          by_cases yz : 1 ≤ y
          · exact yz
          · have : y = 0 := by omega
            subst this
            have := hv.2
            have := Int.mul_pos (show 0 < x by omega) (show 0 < q' by omega)
            omega
        rw [ep, ep'] at hv
        have dn := gf_iv_dn hv
        have z0 : 0 ≤ x - w * y := by
          have h0 := Int.mul_nonneg (show 0 ≤ y by omega) (show 0 ≤ r by omega)
          have h6 := dn.2
          by_cases zz : 0 ≤ x - w * y
          · exact zz
          · have := Int.mul_neg_of_pos_of_neg (show 0 < q by omega) (show x - w * y < 0 by omega)
            omega
        obtain ⟨j1, j2⟩ := i3 y (x - w * y) y1 z0 dn
        have m : w * (gf_ev R).1 ≤ w * y := Int.mul_le_mul_of_nonneg_left j1 (by omega)
        exact ⟨by omega, by omega⟩
    · have lt : w < w' := by
        by_cases d : w < w'
        · exact d
        · have := gf_crs (p := p') (q := q') (p' := p) (q' := q) (w := w') (w' := w) (by omega) (by omega) (by omega) (by omega) (by omega)
          omega
      rw [gf_bt_d true c, if_pos rfl]
      have em : ∃ m, (if gf_cf q r = [] then w else w + 1) = m ∧ ((m = w ∧ r = 0) ∨ (m = w + 1 ∧ 0 < r)) := by
        by_cases d : gf_cf q r = []
        · rw [if_pos d]
          exact ⟨w, rfl, Or.inl ⟨rfl, gf_cf_nil d⟩⟩
        · rw [if_neg d]
          refine ⟨w + 1, rfl, Or.inr ⟨rfl, ?_⟩⟩
          have : r ≠ 0 := fun z => d (by rw [z, gf_cf_0])
          omega
      obtain ⟨m, em, hm⟩ := em
      rw [em]
      have m2 : 2 ≤ m := by
        rcases hm with ⟨e1, e2⟩ | ⟨e1, e2⟩
        · subst e1
          exact gf_w2 (p := p) (q := q) (by omega) h2 (by omega)
        · omega
      have ev1 : (gf_ev [m]).1 = m := by
        show m * 1 + 0 = m
        omega
      have ev2 : (gf_ev [m]).2 = 1 := rfl
      rw [ev1, ev2]
      have mq : p ≤ m * q ∧ ∀ x, p ≤ x * q → m ≤ x := by
        rcases hm with ⟨e1, e2⟩ | ⟨e1, e2⟩
        · subst e1
          exact ⟨by omega, fun x hx => gf_cancel (q := q) (by omega) (by omega)⟩
        · subst e1
          refine ⟨by rw [Int.add_mul]; omega, fun x hx => ?_⟩
          have : ¬ x * q ≤ w * q := by omega
          by_cases d : w + 1 ≤ x
          · exact d
          · exact absurd (Int.mul_le_mul_of_nonneg_right (show x ≤ w by omega) h1) this
      refine ⟨⟨by omega, fun _ => m2, trivial⟩, ⟨by omega, ?_⟩, fun x y hx hy hv => ?_⟩
      · have : m * q' ≤ w' * q' := Int.mul_le_mul_of_nonneg_right (by omega) h3
        omega
      · have y1 : 1 ≤ y := by
          by_cases yz : 1 ≤ y
          · exact yz
          · have : y = 0 := by omega
            subst this
            have := hv.2
            have := Int.mul_pos (show 0 < x by omega) (show 0 < q' by omega)
            omega
        refine ⟨mq.2 x ?_, y1⟩
        have := hv.1
        have : p * 1 ≤ p * y := Int.mul_le_mul_of_nonneg_left y1 (by omega)
        omega
/-- what the reference's search asks for -/
def gf_bs (p q p' q' P Q : Int) : Prop := 1 ≤ Q ∧ gf_iv p q p' q' P Q ∧ ∀ x y : Int, 1 ≤ y → gf_iv p q p' q' x y → Q ≤ y ∧ (y = Q → P ≤ x)
theorem gf_bt_top {p q p' q' : Int} (hq : 0 < q) (hq' : 0 < q') (h : p * q' < p' * q) : (∃ a l, gf_bt true (gf_cf p q) (gf_cf p' q') = a :: l ∧ gf_tl l) ∧ gf_bs p q p' q' (gf_ev (gf_bt true (gf_cf p q) (gf_cf p' q'))).1 (gf_ev (gf_bt true (gf_cf p q) (gf_cf p' q'))).2 := by
  have f := gf_fd_p p hq
  have f' := gf_fd_p p' hq'
  rw [gf_cf_s (p := p) (by omega), gf_cf_s (p := p') (by omega)]
  generalize hw : p.fdiv q = w at *
  generalize hw' : p'.fdiv q' = w' at *
  generalize hr : p - w * q = r at *
  generalize hr' : p' - w' * q' = r' at *
  have ep : p = w * q + r := by omega
  have ep' : p' = w' * q' + r' := by omega
  by_cases c : w = w'
  · subst c
    rw [gf_bt_e, gf_bt_sw]
    have cr : q' * r < q * r' := by
      rw [ep, ep'] at h
      have e1 : (w * q + r) * q' = w * (q * q') + q' * r := by grind
      have e2 : (w * q' + r') * q = w * (q * q') + q * r' := by grind
      omega
    obtain ⟨i1, i2, i3⟩ := gf_bt_T _ q' r' q r (Nat.le_refl _) (by omega) (by omega) (by omega) (by omega) cr
    show (∃ a l, w :: gf_bt true (gf_cf q' r') (gf_cf q r) = a :: l ∧ gf_tl l) ∧ gf_bs p q p' q' (gf_ev (w :: gf_bt true (gf_cf q' r') (gf_cf q r))).1 (gf_ev (w :: gf_bt true (gf_cf q' r') (gf_cf q r))).2
    rw [gf_ev_1, gf_ev_2]
    generalize gf_bt true (gf_cf q' r') (gf_cf q r) = R at *
    have t := gf_tl_ev R i1
    refine ⟨⟨w, R, rfl, i1⟩, by omega, ?_, fun x y y1 hv => ?_⟩
    · rw [ep, ep']
      exact gf_iv_up i2
    · rw [ep, ep'] at hv
      have dn := gf_iv_dn hv
      have z0 : 0 ≤ x - w * y := by
        have h0 := Int.mul_nonneg (show 0 ≤ y by omega) (show 0 ≤ r by omega)
        have h6 := dn.2
        by_cases zz : 0 ≤ x - w * y
        · exact zz
        · have := Int.mul_neg_of_pos_of_neg (show 0 < q by omega) (show x - w * y < 0 by omega)
          omega
      obtain ⟨j1, j2⟩ := i3 y (x - w * y) y1 z0 dn
      refine ⟨j1, fun e => ?_⟩
      rw [← e]
      omega
  · have lt : w < w' := by
      by_cases d : w < w'
      · exact d
      · have := gf_crs (p := p') (q := q') (p' := p) (q' := q) (w := w') (w' := w) (by omega) (by omega) (by omega) (by omega) (by omega)
        omega
    rw [gf_bt_d true c, if_pos rfl]
    have em : ∃ m, (if gf_cf q r = [] then w else w + 1) = m ∧ ((m = w ∧ r = 0) ∨ (m = w + 1 ∧ 0 < r)) := by
      by_cases d : gf_cf q r = []
      · rw [if_pos d]
        exact ⟨w, rfl, Or.inl ⟨rfl, gf_cf_nil d⟩⟩
      · rw [if_neg d]
        refine ⟨w + 1, rfl, Or.inr ⟨rfl, ?_⟩⟩
        have : r ≠ 0 := fun z => d (by rw [z, gf_cf_0])
        omega
    obtain ⟨m, em, hm⟩ := em
    rw [em]
    have ev1 : (gf_ev [m]).1 = m := by
      show m * 1 + 0 = m
      omega
    have ev2 : (gf_ev [m]).2 = 1 := rfl
    rw [ev1, ev2]
    have mq : p ≤ m * q ∧ ∀ x, p ≤ x * q → m ≤ x := by
      rcases hm with ⟨e1, e2⟩ | ⟨e1, e2⟩
      · subst e1
        exact ⟨by omega, fun x hx => gf_cancel (q := q) (by omega) (by omega)⟩
      · subst e1
        refine ⟨by rw [Int.add_mul]; omega, fun x hx => ?_⟩
        have : ¬ x * q ≤ w * q := by omega
        by_cases d : w + 1 ≤ x
        · exact d
        · exact absurd (Int.mul_le_mul_of_nonneg_right (show x ≤ w by omega) (show 0 ≤ q by omega)) this
    refine ⟨⟨m, [], rfl, trivial⟩, by omega, ⟨by omega, ?_⟩, fun x y y1 hv => ⟨y1, fun e => ?_⟩⟩
    · have : m * q' ≤ w' * q' := Int.mul_le_mul_of_nonneg_right (by omega) (by omega)
      omega
    · subst e
      have := hv.1
      exact mq.2 x (by omega)
theorem gf_cf_eq {p q x y : Int} (hq : q ≠ 0) (hy : y ≠ 0) (h : x * q = p * y) : gf_cf x y = gf_cf p q := by
  have e1 := gf_cf_scale x y hq
  have e2 := gf_cf_scale p q hy
  rw [Int.mul_comm q x, h, Int.mul_comm p y, Int.mul_comm q y, e2] at e1
  exact e1.symm
theorem gf_bs_eq {p q p' q' : Int} (ok : gf_ok p q) (ok' : gf_ok p' q') (h : p * q' = p' * q) : p' = p ∧ q' = q ∧ gf_bs p q p' q' p q := by
  have e := gf_cf_eq (p := p') (q := q') (x := p) (y := q) (by have := ok'.2.2.1; omega) (by have := ok.2.2.1; omega) h
  have ev := gf_ok_ev ok
  have ev' := gf_ok_ev ok'
  rw [e, ev'] at ev
  injection ev with e1 e2
  subst e1 e2
  refine ⟨rfl, rfl, ok.2.2.1, ⟨Int.le_refl _, Int.le_refl _⟩, fun x y y1 hv => ?_⟩
  have hx : x * q' = p' * y := Int.le_antisymm hv.2 hv.1
  have e3 := gf_cf_eq (p := p') (q := q') (x := x) (y := y) (by have := ok'.2.2.1; omega) (by omega) hx
  obtain ⟨g, g0, g1, g2⟩ := gf_ev_cf (p := x) (q := y) (by omega)
  rw [e3, ev'] at g1 g2
  dsimp only at g1 g2
  have q1 := ok'.2.2.1
  have m : 1 * q' ≤ g * q' := Int.mul_le_mul_of_nonneg_right (by omega) (by omega)
  refine ⟨by omega, fun z => ?_⟩
  have : g ≤ 1 := gf_cancel (q := q') (by omega) (by omega)
  have : g = 1 := by omega
  subst this
  omega
theorem gf_bs_ok {p q p' q' P Q : Int} (ok : gf_ok p q) (ok' : gf_ok p' q') (h : p * q' ≤ p' * q) (b : gf_bs p q p' q' P Q) (hc : Int.gcd P Q = 1) : gf_ok P Q := by
  obtain ⟨a1, a2, a3, a4, a5⟩ := ok
  obtain ⟨b1, b2, b3, b4, b5⟩ := ok'
  obtain ⟨q1, ⟨v1, v2⟩, mn⟩ := b
  have k1 := (mn p q (by omega) ⟨Int.le_refl _, h⟩).1
  have k2 := (mn p' q' (by omega) ⟨h, Int.le_refl _⟩).1
  refine ⟨?_, ?_, q1, by omega, hc⟩
  · by_cases c : 0 ≤ P
    · omega
    · have : p < 0 := by
        by_cases d : p < 0
        · exact d
        · have h0 := Int.mul_nonneg (show 0 ≤ p by omega) (show 0 ≤ Q by omega)
          have h2 := Int.mul_neg_of_neg_of_pos (show P < 0 by omega) (show 0 < q by omega)
          omega
      have m : p * q ≤ p * Q := Int.mul_le_mul_of_nonpos_left (by omega) k1
      have : p ≤ P := gf_cancel (q := q) (by omega) (by omega)
      omega
  · by_cases c : P ≤ 0
    · omega
    · have : 0 < p' := by
        by_cases d : 0 < p'
        · exact d
        · have h0 := Int.mul_nonpos_of_nonpos_of_nonneg (show p' ≤ 0 by omega) (show 0 ≤ Q by omega)
          have h2 := Int.mul_pos (show 0 < P by omega) (show 0 < q' by omega)
          omega
      have m : p' * Q ≤ p' * q' := Int.mul_le_mul_of_nonneg_left k2 (by omega)
      have : P ≤ p' := gf_cancel (q := q') (by omega) (by omega)
      omega
end
section
/-! between: the component's walk -/
theorem gf_par (i : Nat) : decide ((i + 1) % 2 = 0) = !decide (i % 2 = 0) := by
  by_cases c : i % 2 = 0
  · rw [decide_eq_true c, decide_eq_false (by omega)]
    rfl
  · rw [decide_eq_false c, decide_eq_true (by omega)]
    rfl
section
variable {ov : Int32} {vt vb : Int64} {cnt chn cnt0 chn0 : Nat → Int32} {tb : Nat → Int64}
theorem gf_b184 {post : Int32 → SX → Prop} {rd : Nat} {R : List Int} {P Q : Int} (hd : rd < 4) (ok : gf_ok P Q) (hR : R = gf_cf P Q) (fr : gf_fr cnt0 chn0 cnt chn) (hc : cnt 4 = nI R.length) (hat : gf_at chn 96 R) (K : ∀ (ov : Int32) (vt vb : Int64) (cnt' chn' : Nat → Int32) (tb : Nat → Int64), gf_upd cnt0 chn0 cnt' chn' rd (gf_cf P Q) → post (gf_i Q) (ov, vt, vb, cnt', chn', tb)) : wX_between_184 post (nI rd) ov vt vb cnt chn tb := by
  subst hR
  have hl := gf_ok_len ok
  unfold wX_between_184
  refine gf_copyd hd (C := gf_cf P Q) (by omega) fr hat hc fun cnt' chn' c' up => And.intro (vp_in_nI (by omega) (by omega)) ?_
  refine gf_eval (L := gf_cf P Q) (by omega) (gf_ok_ne ok) (by omega) up.2.2.2 (gf_ok_S ok) (by rw [nI_clamp (by omega)]; exact c') ?_
  have e : (gf_l (gf_ev (gf_cf P Q)).2).toInt32 = gf_i Q := by rw [gf_l_i, gf_ok_ev ok]
  show post (gf_l (gf_ev (gf_cf P Q)).2).toInt32 _
  rw [e]
  exact K _ _ _ _ _ _ up
theorem gf_cb64 {post : SX → Prop} {T : List Int} {m : Int} (fr : gf_fr cnt0 chn0 cnt chn) (hc : cnt 4 = nI T.length) (hT : T.length < 22) (hat : gf_at chn 96 T) (rg : ∀ x, x ∈ T ++ [m] → -9999 ≤ x ∧ x ≤ 9999) (hml : gf_ml (T ++ [m]) = T ++ [m]) (K : ∀ cnt' chn' : Nat → Int32, gf_fr cnt0 chn0 cnt' chn' → cnt' 4 = nI (T ++ [m]).length → gf_at chn' 96 (T ++ [m]) → post (ov, vt, vb, cnt', chn', tb)) {z0 : Int64} (hz : z0 = gf_l m) : wX_closeBetween_64 post z0 ov vt vb cnt chn tb := by
  subst hz
  have hm := rg m (List.mem_append_right _ (List.mem_singleton.mpr rfl))
  have hl : (T ++ [m]).length = T.length + 1 := by rw [List.length_append, List.length_singleton]
  unfold wX_closeBetween_64
  refine gf_append ⟨by omega, by omega⟩ hc (by omega) (fun z => by omega) (fun z1 z2 z3 => ?_)
  refine gf_meltL (T := T ++ [m]) (gf_fr_app fr (by omega) (by omega)) ?_ (by omega) rg (gf_at_app hat) fun cnt' chn' fr' c' at' => ?_
  · rw [pk_us, hl]
  · rw [hml] at c' at'
    exact K cnt' chn' fr' c' at'
theorem gf_cb11 {post : SX → Prop} {T L l : List Int} {m w : Int} {z i : Nat} (hz : z < 4) (cz : cnt z = nI L.length) (az : gf_at chn (24 * z) L) (lz : L.length ≤ 19) (rz : ∀ x, x ∈ L → -9999 ≤ x ∧ x ≤ 9999) (dz : L.drop i = w :: l) (em : m = if l = [] then w else w + 1) (fr : gf_fr cnt0 chn0 cnt chn) (hc : cnt 4 = nI T.length) (hT : T.length < 22) (hat : gf_at chn 96 T) (rg : ∀ x, x ∈ T ++ [m] → -9999 ≤ x ∧ x ≤ 9999) (hml : gf_ml (T ++ [m]) = T ++ [m]) (K : ∀ cnt' chn' : Nat → Int32, gf_fr cnt0 chn0 cnt' chn' → cnt' 4 = nI (T ++ [m]).length → gf_at chn' 96 (T ++ [m]) → post (ov, vt, vb, cnt', chn', tb)) : wX_closeBetween_11 post (nI i) (nI z) ov vt vb cnt chn tb := by
  obtain ⟨k1, k2, k3⟩ := gf_drop_cons _ _ _ _ dz
  have rw1 := rz _ (gf_getD_mem k1)
  rw [k2] at rw1
  have e1 : chn ((24 : Int32) * nI z + nI i).toNatClampNeg = gf_i w := by rw [gf_cl z i (by omega), az i k1, k2]
  have e2 : cnt (nI z).toNatClampNeg = nI L.length := by rw [nI_clamp (by omega), cz]
  refine And.intro (by rw [gf_ix]; exact vp_in_nI (by omega) (by omega)) (nm_r e1 (And.intro (vp_in_nI (by omega) (by omega)) ?_))
  rw [e2, nI_1]
  have tl : (gf_i w).toInt64 = gf_l w := gf_i_l ⟨by omega, by omega⟩
  refine pk_eq L.length (i + 1) (fun y => br_f gf_ne10 (gf_cb64 fr hc hT hat rg hml K ?_)) (fun y => br_t rfl (gf_cb64 fr hc hT hat rg hml K ?_))
  · have : l = [] := by rw [← k3]; exact List.drop_eq_nil_iff.mpr (by omega)
    rw [if_pos this] at em
    rw [tl, em]
  · have : l ≠ [] := fun q => by
      rw [← k3] at q
      have := List.drop_eq_nil_iff.mp q
      omega
    rw [if_neg this] at em
    rw [tl, gf_l1, gf_l_add, em]
theorem gf_b141 {post : Int32 → SX → Prop} {rd rs rg : Nat} {Ls Lg : List Int} {P Q : Int} {i : Nat} (hd : rd < 4) (hs : rs < 4) (hg : rg < 4) (cs : cnt rs = nI Ls.length) (cg : cnt rg = nI Lg.length) (as : gf_at chn (24 * rs) Ls) (ag : gf_at chn (24 * rg) Lg) (ls : Ls.length ≤ 19) (lg : Lg.length ≤ 19) (ns : ∀ x, x ∈ Ls → -9999 ≤ x ∧ x ≤ 9999) (ng : ∀ x, x ∈ Lg → -9999 ≤ x ∧ x ≤ 9999) (ok : gf_ok P Q) (hi : i ≤ Ls.length) (hR : Ls.take i ++ gf_bt (decide (i % 2 = 0)) (Ls.drop i) (Lg.drop i) = gf_cf P Q) (hx : i < Ls.length → i < Lg.length → Ls.getD i 0 ≠ Lg.getD i 0) (K : ∀ (ov : Int32) (vt vb : Int64) (cnt' chn' : Nat → Int32) (tb : Nat → Int64), gf_upd cnt chn cnt' chn' rd (gf_cf P Q) → post (gf_i Q) (ov, vt, vb, cnt', chn', tb)) : wX_between_141 post (nI rd) (nI rs) (nI rg) (nI i) ov vt vb cnt chn tb := by
  have hT : (Ls.take i).length = i := by
    rw [List.length_take]
    omega
  unfold wX_between_141
  refine gf_copyr hs (T := Ls.take i) (by omega) (gf_at_take as) (by rw [hT]) fun cnt1 chn1 fr1 c1 at1 => And.intro (vp_in_nI (by omega) (by omega)) ?_
  have e1 : cnt1 (nI rs).toNatClampNeg = nI Ls.length := by rw [nI_clamp (by omega), fr1.1 rs hs, cs]
  have e2 : cnt1 (nI rg).toNatClampNeg = nI Lg.length := by rw [nI_clamp (by omega), fr1.1 rg hg, cg]
  rw [e1, e2]
  refine pk_le Ls.length i (fun y => ?_) (fun y => And.intro (vp_in_nI (by omega) (by omega)) (pk_le Lg.length i (fun y2 => ?_) (fun y2 => ?_)))
  · rw [List.drop_eq_nil_iff.mpr y, gf_bt_n1, List.append_nil] at hR
    exact gf_b184 hd ok hR fr1 c1 at1 K
  · rw [List.drop_eq_nil_iff.mpr y2, gf_bt_n2, List.append_nil] at hR
    exact gf_b184 hd ok hR fr1 c1 at1 K
  · have d1 := gf_drop_lt y
    have d2 := gf_drop_lt y2
    rw [d1, d2, gf_bt_d _ (hx y y2)] at hR
    generalize Ls.getD i 0 = w at *
    generalize Lg.getD i 0 = w' at *
    generalize hl1 : Ls.drop (i + 1) = l at *
    generalize hl2 : Lg.drop (i + 1) = l' at *
    have a1 : gf_at chn1 (24 * rs) Ls := fun j hj => by
      rw [fr1.2 _ (by omega)]
      exact as j hj
    have a2 : gf_at chn1 (24 * rg) Lg := fun j hj => by
      rw [fr1.2 _ (by omega)]
      exact ag j hj
    have rR := gf_ok_rng ok
    have mR : gf_ml (gf_cf P Q) = gf_cf P Q := by
      apply gf_ml_same
      by_cases c : (gf_cf P Q).length < 2
      · exact Or.inl c
      · exact Or.inr (gf_last (by have := ok.2.2.1; omega) (by omega))
    rw [← hR] at rR mR
    unfold wpX_closeBetween
    refine ek_if (gf_and1 (by omega)) (fun ev => ?_) (fun ev => ?_)
    · rw [decide_eq_true ev, if_pos rfl] at hR rR mR
      exact gf_cb11 hs (by rw [fr1.1 rs hs, cs]) a1 ls ns d1 rfl fr1 c1 (by omega) at1 rR mR fun cnt' chn' fr' c' at' => gf_b184 hd ok hR fr' c' at' K
    · rw [decide_eq_false ev, if_neg (by decide)] at hR rR mR
      exact gf_cb11 hg (by rw [fr1.1 rg hg, cg]) a2 lg ng d2 rfl fr1 c1 (by omega) at1 rR mR fun cnt' chn' fr' c' at' => gf_b184 hd ok hR fr' c' at' K
theorem gf_b82 {post : Int32 → SX → Prop} {rd rs rg : Nat} {Ls Lg : List Int} {P Q : Int} (hd : rd < 4) (hs : rs < 4) (hg : rg < 4) (cs : cnt rs = nI Ls.length) (cg : cnt rg = nI Lg.length) (as : gf_at chn (24 * rs) Ls) (ag : gf_at chn (24 * rg) Lg) (ls : Ls.length ≤ 19) (lg : Lg.length ≤ 19) (ns : ∀ x, x ∈ Ls → -9999 ≤ x ∧ x ≤ 9999) (ng : ∀ x, x ∈ Lg → -9999 ≤ x ∧ x ≤ 9999) (ok : gf_ok P Q) (K : ∀ (ov : Int32) (vt vb : Int64) (cnt' chn' : Nat → Int32) (tb : Nat → Int64), gf_upd cnt chn cnt' chn' rd (gf_cf P Q) → post (gf_i Q) (ov, vt, vb, cnt', chn', tb)) : ∀ (d i n : Nat), i + d = 20 → d < n → i ≤ Ls.length → Ls.take i ++ gf_bt (decide (i % 2 = 0)) (Ls.drop i) (Lg.drop i) = gf_cf P Q → wX_between_82 post (nI rd) (nI rs) (nI rg) ov vt vb cnt chn tb n (nI i) := by
  intro d
  induction d with
  | zero =>
    intro i n hi hn hl
    omega
  | succ d ih =>
    intro i n hi hn hl hR
    obtain ⟨n, rfl⟩ : ∃ m, n = m + 1 := ⟨n - 1, by omega⟩
    have e1 : cnt (nI rs).toNatClampNeg = nI Ls.length := by rw [nI_clamp (by omega), cs]
    have e2 : cnt (nI rg).toNatClampNeg = nI Lg.length := by rw [nI_clamp (by omega), cg]
    refine And.intro (vp_in_nI (by omega) (by omega)) ?_
    rw [e1, e2]
    refine pk_le Ls.length i (fun y => ?_) (fun y => And.intro (vp_in_nI (by omega) (by omega)) (pk_le Lg.length i (fun y2 => ?_) (fun y2 => And.intro (by rw [gf_ix]; exact vp_in_nI (by omega) (by omega)) (And.intro (by rw [gf_ix]; exact vp_in_nI (by omega) (by omega)) ?_))))
    · exact gf_b141 hd hs hg cs cg as ag ls lg ns ng ok hl hR (fun z => by omega) K
    · exact gf_b141 hd hs hg cs cg as ag ls lg ns ng ok hl hR (fun _ z => by omega) K
    · have r1 := ns _ (gf_getD_mem y)
      have r2 := ng _ (gf_getD_mem y2)
      rw [gf_cl rs i (by omega), gf_cl rg i (by omega), as i y, ag i y2]
      refine ek_if (gf_i_eq ⟨by omega, by omega⟩ ⟨by omega, by omega⟩) (fun e => nm_r (nI_1 i) (ih (i + 1) n (by omega) (by omega) (by omega) ?_)) (fun e => gf_b141 hd hs hg cs cg as ag ls lg ns ng ok hl hR (fun _ _ => e) K)
      rw [gf_drop_lt y, gf_drop_lt y2, e, gf_bt_e] at hR
      rw [gf_par, ← hR, List.take_succ_eq_append_getElem y, List.append_assoc]
      have g : Ls[i] = Lg.getD i 0 := by
        rw [← e, List.getD_eq_getElem?_getD, List.getElem?_eq_getElem y]
        rfl
      rw [g]
      rfl
theorem gf_bX {post : Int32 → SX → Prop} {rd rs rg : Nat} {p q p' q' : Int} (hd : rd < 4) (hs : rs < 4) (hg : rg < 4) (ok : gf_ok p q) (ok' : gf_ok p' q') (gs : gf_reg cnt chn rs p q) (gg : gf_reg cnt chn rg p' q') (h : p * q' < p' * q) {P Q : Int} (hP : P = (gf_ev (gf_bt true (gf_cf p q) (gf_cf p' q'))).1) (hQ : Q = (gf_ev (gf_bt true (gf_cf p q) (gf_cf p' q'))).2) (K : ∀ (ov : Int32) (vt vb : Int64) (cnt' chn' : Nat → Int32) (tb : Nat → Int64), gf_upd cnt chn cnt' chn' rd (gf_cf P Q) → post (gf_i Q) (ov, vt, vb, cnt', chn', tb)) : ∃ n82 : Nat, wX_between_82 post (nI rd) (nI rs) (nI rg) ov vt vb cnt chn tb n82 0 := by
  have b := gf_bt_top (p := p) (q := q) (p' := p') (q' := q') (by have := ok.2.2.1; omega) (by have := ok'.2.2.1; omega) h
  obtain ⟨⟨a, l, e, tl⟩, bs⟩ := b
  have cop := gf_ev_cop (gf_bt true (gf_cf p q) (gf_cf p' q'))
  rw [← hP, ← hQ] at bs cop
  have okP := gf_bs_ok ok ok' (by omega) bs cop
  have eR : gf_bt true (gf_cf p q) (gf_cf p' q') = gf_cf P Q := by
    rw [hP, hQ, e]
    exact (gf_cf_ev tl).symm
  exact ⟨21, gf_b82 hd hs hg gs.1 gg.1 gs.2 gg.2 (gf_ok_len ok) (gf_ok_len ok') (gf_ok_rng ok) (gf_ok_rng ok') okP K 20 0 21 (by omega) (by omega) (by omega) eR⟩
end
end
section
/-! between: the reference's walk, and the two together -/
theorem gf_b62 {post : Int32 → SY → Prop} {len : Int32} {tops bots yc : Nat → Int32} {rd rl rh : Nat} (hd : rd < 4) (hl : rl < 4) (hh : rh < 4) {p q p' q' P Q : Int} (ok : gf_ok p q) (ok' : gf_ok p' q') (tl : tops rl = gf_i p) (bl : bots rl = gf_i q) (th : tops rh = gf_i p') (bh : bots rh = gf_i q') (okP : gf_ok P Q) (bs : gf_bs p q p' q' P Q) (K : post (gf_i Q) (len, upd tops rd (gf_i P), upd bots rd (gf_i Q), yc)) : ∀ (d y n : Nat), (y : Int) + d = Q → d < n → 1 ≤ y → wY_between_62 post (nI rd) (nI rl) (nI rh) len tops bots yc n (nI y) := by
  obtain ⟨a1, a2, a3, a4, a5⟩ := id ok
  obtain ⟨b1, b2, b3, b4, b5⟩ := id ok'
  obtain ⟨c1, c2, c3, c4, c5⟩ := id okP
  obtain ⟨Q1, iv, mn⟩ := bs
  have vl : vp_in (nI rl) 4 := vp_in_nI hl (by omega)
  have vh : vp_in (nI rh) 4 := vp_in_nI hh (by omega)
  have step : ∀ (y n : Nat), 1 ≤ y → (y : Int) ≤ Q → ((y : Int) < Q → wY_between_62 post (nI rd) (nI rl) (nI rh) len tops bots yc n (nI (y + 1))) → wY_between_62 post (nI rd) (nI rl) (nI rh) len tops bots yc (n + 1) (nI y) := by
    intro y n y1 yQ cont
    have m1 := gf_mb (x := -p) (y := y) (A := 9999) (B := 9999) (by omega) (by omega) (by omega) (by omega)
    have e1 : -tops (nI rl).toNatClampNeg * nI y = gf_i (-p * y) := by
      rw [nI_clamp (by omega), tl, gf_i_neg, ← gf_nI, gf_i_mul]
    have e2 : bots (nI rl).toNatClampNeg = gf_i q := by rw [nI_clamp (by omega), bl]
    refine br_f (nI_nlt (a := 9999) (b := y) (by omega) (by omega)) (And.intro vl (And.intro vl ?_))
    rw [e1, e2]
    refine gf_floorY (by omega) (by omega) (by omega) (by omega) ?_
    have f := gf_fd_p (-p * y) (b := q) (by omega)
    have fr := gf_fdr (p := -p * y) (q := q) (M := 99980001) (by omega) (by omega) (by omega)
    rw [gf_i_neg]
    generalize hx : -((-p * (y : Int)).fdiv q) = x
    have hw : (-p * (y : Int)).fdiv q = -x := by omega
    rw [hw] at f fr
    have f1 : -x * q = -(x * q) := Int.neg_mul _ _
    have f2 : -p * (y : Int) = -(p * y) := Int.neg_mul _ _
    have lo : p * (y : Int) ≤ x * q := by omega
    have m2 := gf_mb (x := x) (y := q') (A := 99980001) (B := 9999) (by omega) (by omega) (by omega) (by omega)
    have m3 := gf_mb (x := p') (y := y) (A := 9999) (B := 9999) (by omega) (by omega) (by omega) (by omega)
    have g1 : (tops (nI rh).toNatClampNeg).toInt64 * (nI y).toInt64 = gf_l (p' * y) := by
      rw [nI_clamp (by omega), th, gf_i_l ⟨by omega, by omega⟩, ← gf_nI, gf_i_l ⟨by omega, by omega⟩, gf_l_mul]
    have g2 : (gf_i x).toInt64 * (bots (nI rh).toNatClampNeg).toInt64 = gf_l (x * q') := by
      rw [nI_clamp (by omega), bh, gf_i_l ⟨by omega, by omega⟩, gf_i_l ⟨by omega, by omega⟩, gf_l_mul]
    refine nm_e (And.intro vh (And.intro vh ?_))
    rw [g1, g2]
    refine ek_if (gf_l_lt ⟨by omega, by omega⟩ ⟨by omega, by omega⟩) (fun z => nm_r (nI_1 y) (cont ?_)) (fun z => ?_)
    · by_cases c : (y : Int) < Q
      · exact c
      · have yq : (y : Int) = Q := by omega
        have i1 := iv.1
        have i2 := iv.2
        rw [← yq] at i1 i2
        have xP : x ≤ P := by
          by_cases d : x ≤ P
          · exact d
          · have k : (P + 1) * q ≤ x * q := Int.mul_le_mul_of_nonneg_right (by omega) (by omega)
            rw [Int.add_mul] at k
            omega
        have : x * q' ≤ P * q' := Int.mul_le_mul_of_nonneg_right xP (by omega)
        omega
    · have k := mn x y (by omega) ⟨lo, by omega⟩
      have yq : (y : Int) = Q := by omega
      have xP : x ≤ P := by
        have i1 := iv.1
        rw [← yq] at i1
        by_cases d : x ≤ P
        · exact d
        · have k : (P + 1) * q ≤ x * q := Int.mul_le_mul_of_nonneg_right (by omega) (by omega)
          rw [Int.add_mul] at k
          omega
      have xe : x = P := by have := k.2 yq; omega
      subst xe
      refine gf_store_e hd (P := x) (Q := Q) (gf_i_l ⟨by omega, by omega⟩) (by rw [← gf_nI, gf_i_l ⟨by omega, by omega⟩, yq]) ⟨by omega, by omega⟩ ⟨by omega, by omega⟩ (by omega) (by rw [gf_ok_ev okP]) (by rw [gf_ok_ev okP]) (fun ns => absurd ⟨c1, c2, c4⟩ ns) (fun _ => And.intro (vp_in_nI hd (by omega)) ?_)
      rw [nI_clamp (by omega), pk_us]
      exact K
  intro d
  induction d with
  | zero =>
    intro y n hy hn y1
    obtain ⟨n, rfl⟩ : ∃ m, n = m + 1 := ⟨n - 1, by omega⟩
    exact step y n y1 (by omega) (fun z => by omega)
  | succ d ih =>
    intro y n hy hn y1
    obtain ⟨n, rfl⟩ : ∃ m, n = m + 1 := ⟨n - 1, by omega⟩
    exact step y n y1 (by omega) (fun z => ih (y + 1) n (by omega) (by omega) (by omega))
theorem gf_bY {post : Int32 → SY → Prop} {len : Int32} {tops bots yc : Nat → Int32} {rd rl rh : Nat} (hd : rd < 4) (hl : rl < 4) (hh : rh < 4) {p q p' q' P Q : Int} (ok : gf_ok p q) (ok' : gf_ok p' q') (tl : tops rl = gf_i p) (bl : bots rl = gf_i q) (th : tops rh = gf_i p') (bh : bots rh = gf_i q') (okP : gf_ok P Q) (bs : gf_bs p q p' q' P Q) (K : post (gf_i Q) (len, upd tops rd (gf_i P), upd bots rd (gf_i Q), yc)) : ∃ n62 : Nat, wY_between_62 post (nI rd) (nI rl) (nI rh) len tops bots yc n62 1 :=
  ⟨Q.natAbs, gf_b62 hd hl hh ok ok' tl bl th bh okP bs K (Q.natAbs - 1) 1 Q.natAbs (by have := okP.2.2.1; omega) (by have := okP.2.2.1; omega) (by omega)⟩
/-- the reference's between behind the checks -/
theorem gf_bYw {post : Int32 → SY → Prop} {len : Int32} {tops bots yc : Nat → Int32} {rd ra rb : Nat} (hd : rd < 4) (ha : ra < 4) (hb : rb < 4) {pa qa pb qb P Q : Int} (oa : gf_ok pa qa) (ob : gf_ok pb qb) (ta : tops ra = gf_i pa) (ba : bots ra = gf_i qa) (tb : tops rb = gf_i pb) (bb : bots rb = gf_i qb) (okP : gf_ok P Q) (hle : pa * qb - pb * qa ≤ 0 → gf_bs pa qa pb qb P Q) (hgt : 0 < pa * qb - pb * qa → gf_bs pb qb pa qa P Q) (K : post (gf_i Q) (len, upd tops rd (gf_i P), upd bots rd (gf_i Q), yc)) : wpY_between post (len, tops, bots, yc) (nI rd) (nI ra) (nI rb) := by
  unfold wpY_between
  refine gf_isY1 hd (br_f gf_ne10 (gf_isY1 ha (br_f gf_ne10 (gf_isY1 hb (br_f gf_ne10 (gf_cmpY ha hb oa ob ta ba tb bb ?_))))))
  by_cases c : 0 < pa * qb - pb * qa
  · rw [gf_sgn_p c]
    refine br_t (by decide) ?_
    unfold wY_between_41
    refine gf_cmpY ha hb oa ob ta ba tb bb ?_
    rw [gf_sgn_p c]
    exact br_t (by decide) (gf_bY hd hb ha ob oa tb bb ta ba okP (hgt c) K)
  · have s : ¬ (0 : Int32) < gf_sgn (pa * qb - pb * qa) := by
      by_cases d : pa * qb - pb * qa < 0
      · rw [gf_sgn_n d]
        decide
      · rw [gf_sgn_0 (by omega)]
        decide
    refine br_f s ?_
    unfold wY_between_41
    refine gf_cmpY ha hb oa ob ta ba tb bb ?_
    exact br_f s (gf_bY hd ha hb oa ob ta ba tb bb okP (hle (by omega)) K)
theorem i_vc_between {k : Nat} {u : SX} {v : SY} (I : i_Rel k u v) (hk : k + 5 ≤ 2560) (v1 : Int32) (v2 : Int32) (v3 : Int32) : wpX_between (fun r u' => wpY_between (fun r' v' => r' = r ∧ i_Rel (k + 5) u' v') v v1 v2 v3) u v1 v2 v3 := by
  obtain ⟨ov, vt, vb, cnt, chn, tb⟩ := u
  obtain ⟨len, tops, bots, yc⟩ := v
  unfold wpX_between
  by_cases hd : gf_rg v1
  case neg =>
    unfold wpY_between
    exact gf_isX0 hd (br_t rfl (gf_isY0 hd (br_t rfl ⟨rfl, I⟩)))
  obtain ⟨rd, hd, rfl⟩ := hd
  by_cases ha : gf_rg v2
  case neg =>
    unfold wpY_between
    exact gf_isX1 hd (br_f gf_ne10 (gf_isX0 ha (br_t rfl (gf_isY1 hd (br_f gf_ne10 (gf_isY0 ha (br_t rfl ⟨rfl, I⟩)))))))
  obtain ⟨ra, ha, rfl⟩ := ha
  by_cases hb : gf_rg v3
  case neg =>
    unfold wpY_between
    exact gf_isX1 hd (br_f gf_ne10 (gf_isX1 ha (br_f gf_ne10 (gf_isX0 hb (br_t rfl (gf_isY1 hd (br_f gf_ne10 (gf_isY1 ha (br_f gf_ne10 (gf_isY0 hb (br_t rfl ⟨rfl, I⟩)))))))))))
  obtain ⟨rb, hb, rfl⟩ := hb
  obtain ⟨pa, qa, oa, ta, ba, ga⟩ := I ra ha
  obtain ⟨pb, qb, ob, tb', bb, gb⟩ := I rb hb
  refine gf_isX1 hd (br_f gf_ne10 (gf_isX1 ha (br_f gf_ne10 (gf_isX1 hb (br_f gf_ne10 (gf_cmpX ha hb oa ob ga gb ?_))))))
  have a3 := oa.2.2.1
  have b3 := ob.2.2.1
  by_cases c : 0 < pa * qb - pb * qa
  · rw [gf_sgn_p c]
    refine br_t (by decide) (br_t (by decide) (br_f (by decide) ?_))
    have top := gf_bt_top (p := pb) (q := qb) (p' := pa) (q' := qa) (by omega) (by omega) (by omega)
    have okP := gf_bs_ok ob oa (by omega) top.2 (gf_ev_cop _)
    exact gf_bX hd hb ha ob oa gb ga (by omega) rfl rfl fun ov vt vb cnt' chn' tb up => gf_bYw hd ha hb oa ob ta ba tb' bb okP (fun z => by omega) (fun _ => top.2) ⟨rfl, gf_rel_upd I up hd okP rfl⟩
  · by_cases d : pa * qb - pb * qa < 0
    · rw [gf_sgn_n d]
      refine br_f (by decide) (br_f (by decide) (br_f (by decide) ?_))
      have top := gf_bt_top (p := pa) (q := qa) (p' := pb) (q' := qb) (by omega) (by omega) (by omega)
      have okP := gf_bs_ok oa ob (by omega) top.2 (gf_ev_cop _)
      exact gf_bX hd ha hb oa ob ga gb (by omega) rfl rfl fun ov vt vb cnt' chn' tb up => gf_bYw hd ha hb oa ob ta ba tb' bb okP (fun _ => top.2) (fun z => by omega) ⟨rfl, gf_rel_upd I up hd okP rfl⟩
    · rw [gf_sgn_0 (by omega)]
      obtain ⟨e1, e2, bs⟩ := gf_bs_eq oa ob (by omega)
      have hl := gf_ok_len oa
      refine br_f (by decide) (br_f (by decide) (br_t rfl (And.intro (vp_in_nI (by omega) (by omega)) ?_)))
      refine gf_copyr ha (T := gf_cf pa qa) (by omega) ga.2 (by rw [nI_clamp (by omega)]; exact ga.1) fun cnt1 chn1 fr1 c1 at1 => ?_
      exact gf_b184 hd oa rfl fr1 c1 at1 fun ov vt vb cnt' chn' tb up => gf_bYw hd ha hb oa ob ta ba tb' bb oa (fun _ => bs) (fun z => by omega) ⟨rfl, gf_rel_upd I up hd oa rfl⟩
end
