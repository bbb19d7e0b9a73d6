section
theorem pk_us {f : Nat → Int32} {k : Nat} {x : Int32} : upd f k x k = x := if_pos rfl
theorem pk_un {f : Nat → Int32} {k j : Nat} {x : Int32} (h : j ≠ k) : upd f k x j = f j := if_neg h
theorem pk_uLs {f : Nat → Int64} {k : Nat} {x : Int64} : vp_updL f k x k = x := if_pos rfl
theorem pk_uLn {f : Nat → Int64} {k j : Nat} {x : Int64} (h : j ≠ k) : vp_updL f k x j = f j := if_neg h
theorem pk_sub {a b : Nat} (h : b ≤ a) : nI a - nI b = nI (a - b) := by
  obtain ⟨c, rfl⟩ : ∃ c, a = c + b := ⟨a - b, by omega⟩
  rw [← nI_add, Int32.add_sub_cancel, Nat.add_sub_cancel]
theorem pk_mul (a b : Nat) : nI a * nI b = nI (a * b) := (Int32.ofNat_mul a b).symm
theorem pk_div {a d : Nat} (ha : a < 2 ^ 31) (h0 : 0 < d) (hd : d < 2 ^ 31) : nI a / nI d = nI (a / d) := by
  apply Int32.toInt_inj.mp
  rw [lg_idiv_nonneg (by rw [nI_toInt ha]; omega) (by rw [nI_toInt hd]; omega), nI_toInt ha, nI_toInt hd, nI_toInt (Nat.lt_of_le_of_lt (Nat.div_le_self a d) ha)]
  first | rfl | exact (Int.natCast_ediv _ _).symm
theorem pk_rem {a d : Nat} (ha : a < 2 ^ 31) (h0 : 0 < d) (hd : d < 2 ^ 31) : nI a - nI a / nI d * nI d = nI (a % d) := by
  rw [pk_div ha h0 hd, pk_mul, pk_sub (Nat.div_mul_le_self a d)]
  exact congrArg nI (by have := Nat.div_add_mod' a d; omega)
theorem pk_le {x y : Int32} {A B : Prop} (a b : Nat) (f : a ≤ b → A) (g : b < a → B) (hx : x = nI a := by rfl) (hy : y = nI b := by rfl) (ha : a < 2 ^ 31 := by omega) (hb : b < 2 ^ 31 := by omega) : (x ≤ y → A) ∧ (¬ x ≤ y → B) := by
  subst hx hy
  rw [nI_leI ha hb]
  exact ⟨f, fun z => g (by omega)⟩
theorem pk_lt {x y : Int32} {A B : Prop} (a b : Nat) (f : a < b → A) (g : b ≤ a → B) (hx : x = nI a := by rfl) (hy : y = nI b := by rfl) (ha : a < 2 ^ 31 := by omega) (hb : b < 2 ^ 31 := by omega) : (x < y → A) ∧ (¬ x < y → B) := by
  subst hx hy
  rw [nI_ltI ha hb]
  exact ⟨f, fun z => g (by omega)⟩
theorem pk_eq {x y : Int32} {A B : Prop} (a b : Nat) (f : a = b → A) (g : a ≠ b → B) (hx : x = nI a := by rfl) (hy : y = nI b := by rfl) (ha : a < 2 ^ 31 := by omega) (hb : b < 2 ^ 31 := by omega) : (x = y → A) ∧ (¬ x = y → B) := by
  subst hx hy
  rw [nI_eq ha hb]
  exact ⟨f, g⟩
theorem pk_in {x : Int32} (n N : Nat) (h : n < N) (hx : x = nI n := by rfl) (hN : N < 2 ^ 31 := by omega) : vp_in x N := by
  subst hx
  exact vp_in_nI h hN
theorem pk_cl {x : Int32} (n : Nat) (hx : x = nI n := by rfl) (h : n < 2 ^ 31 := by omega) : x.toNatClampNeg = n := by
  subst hx
  exact nI_clamp h
theorem pk_shr (a s : Int32) (k : Nat) (hs : (s.toBitVec.smod 32).toNat = k) : (a >>> s).toInt = a.toInt >>> k := by
  show (a.toBitVec.sshiftRight (s.toBitVec.smod 32).toNat).toInt = _
  rw [hs, BitVec.toInt_sshiftRight]
  rfl
theorem pk_lT {n : Nat} (h : n < 2 ^ 63) : (lN n).toInt = (n : Int) := lg_ofNat_toInt h
theorem pk_lLT {a b : Nat} (ha : a < 2 ^ 63) (hb : b < 2 ^ 63) : lN a < lN b ↔ a < b := by
  rw [Int64.lt_iff_toInt_lt, pk_lT ha, pk_lT hb]; omega
theorem pk_lLE {a b : Nat} (ha : a < 2 ^ 63) (hb : b < 2 ^ 63) : lN a ≤ lN b ↔ a ≤ b := by
  rw [Int64.le_iff_toInt_le, pk_lT ha, pk_lT hb]; omega
theorem pk_lEQ {a b : Nat} (ha : a < 2 ^ 63) (hb : b < 2 ^ 63) : lN a = lN b ↔ a = b := by
  rw [← Int64.toInt_inj, pk_lT ha, pk_lT hb]; omega
theorem pk_lOf {x : Int64} (h : ¬ x < 0) : ∃ k : Nat, k < 2 ^ 63 ∧ x = lN k := by
  rw [Int64.lt_iff_toInt_lt] at h
  have h0 : (0 : Int64).toInt = 0 := by decide
  have hx := Int64.toInt_lt x
  refine ⟨x.toInt.toNat, by omega, Int64.toInt_inj.mp ?_⟩
  rw [pk_lT (by omega)]
  omega
theorem pk_lDiv {a b : Nat} (ha : a < 2 ^ 63) (h0 : 0 < b) (hb : b < 2 ^ 63) : lN a / lN b = lN (a / b) := by
  apply Int64.toInt_inj.mp
  rw [lg_ldiv_nonneg (by rw [pk_lT ha]; omega) (by rw [pk_lT hb]; omega), pk_lT ha, pk_lT hb, pk_lT (Nat.lt_of_le_of_lt (Nat.div_le_self a b) ha)]
  rfl
theorem pk_lRem {a b : Nat} (ha : a < 2 ^ 63) (h0 : 0 < b) (hb : b < 2 ^ 63) : lN a - lN a / lN b * lN b = lN (a % b) := by
  rw [pk_lDiv ha h0 hb, lN_mul, lN_sub (Nat.div_mul_le_self a b)]
  exact congrArg lN (by have := Nat.div_add_mod' a b; omega)
end
section
/-! longs as Int64.ofInt, ints as Int32.ofInt; index rows; registers -/
def rs_L (z : Int) : Int64 := Int64.ofInt z
def rs_I (z : Int) : Int32 := Int32.ofInt z
theorem rs_add (a b : Int) : rs_L a + rs_L b = rs_L (a + b) := (Int64.ofInt_add a b).symm
theorem rs_sub (a b : Int) : rs_L a - rs_L b = rs_L (a - b) := (Int64.ofInt_sub a b).symm
theorem rs_mul (a b : Int) : rs_L a * rs_L b = rs_L (a * b) := (Int64.ofInt_mul a b).symm
theorem rs_neg (a : Int) : -rs_L a = rs_L (-a) := (Int64.ofInt_neg a).symm
/-- within 2^62 -/
abbrev rs_r (z : Int) : Prop := -4611686018427387904 ≤ z ∧ z ≤ 4611686018427387904
theorem rs_ti {z : Int} (h : rs_r z) : (rs_L z).toInt = z := Int64.toInt_ofInt_of_le (by have := h.1; omega) (by have := h.2; omega)
theorem rs_le {a b : Int} (ha : rs_r a) (hb : rs_r b) : rs_L a ≤ rs_L b ↔ a ≤ b := by
  rw [Int64.le_iff_toInt_le, rs_ti ha, rs_ti hb]
theorem rs_lt {a b : Int} (ha : rs_r a) (hb : rs_r b) : rs_L a < rs_L b ↔ a < b := by
  rw [Int64.lt_iff_toInt_lt, rs_ti ha, rs_ti hb]
theorem rs_eq {a b : Int} (ha : rs_r a) (hb : rs_r b) : rs_L a = rs_L b ↔ a = b := by
  rw [← Int64.toInt_inj, rs_ti ha, rs_ti hb]
theorem rs_min : Int64.minValue.toInt = -9223372036854775808 := by decide
theorem rs_max : Int64.maxValue.toInt = 9223372036854775807 := by decide
theorem rs_div {a b : Int} (ha : rs_r a) (hb : rs_r b) : rs_L a / rs_L b = rs_L (a.tdiv b) := by
  have h1 := ha.1
  have h2 := ha.2
  have h3 := hb.1
  have h4 := hb.2
  exact (Int64.ofInt_tdiv (by rw [rs_min]; omega) (by rw [rs_max]; omega) (by rw [rs_min]; omega) (by rw [rs_max]; omega)).symm
theorem rs_to (x : Int32) : x.toInt64 = rs_L x.toInt := rfl
theorem rs_min32 : Int32.minValue.toInt = -2147483648 := by decide
theorem rs_max32 : Int32.maxValue.toInt = 2147483647 := by decide
theorem rs_Ito {z : Int} (h1 : -2147483648 ≤ z) (h2 : z ≤ 2147483647) : (rs_I z).toInt64 = rs_L z :=
  Int32.toInt64_ofInt (by rw [rs_min32]; exact h1) (by rw [rs_max32]; exact h2)
theorem rs_L32 (z : Int) : (rs_L z).toInt32 = rs_I z := Int64.toInt32_ofInt
theorem rs_Iti {z : Int} (h1 : -2147483648 ≤ z) (h2 : z ≤ 2147483647) : (rs_I z).toInt = z :=
  Int32.toInt_ofInt_of_le (by omega) (by omega)
theorem rs_II (x : Int32) : rs_I x.toInt = x := Int32.ofInt_toInt x
theorem rs_N (n : Nat) : rs_L (n : Int) = lN n := Int64.ofInt_eq_ofNat
theorem rs_IN (n : Nat) : rs_I (n : Int) = nI n := Int32.ofInt_eq_ofNat
theorem rs_Imul (a b : Int) : rs_I a * rs_I b = rs_I (a * b) := (Int32.ofInt_mul a b).symm
theorem rs_Iadd (a b : Int) : rs_I a + rs_I b = rs_I (a + b) := (Int32.ofInt_add a b).symm
/-- literals -/
theorem rs_l0 : (0 : Int64) = rs_L 0 := rfl
theorem rs_l1 : (1 : Int64) = rs_L 1 := rfl
theorem rs_l2 : (2 : Int64) = rs_L 2 := rfl
theorem rs_l3 : (3 : Int64) = rs_L 3 := rfl
theorem rs_l6 : (6 : Int64) = rs_L 6 := rfl
theorem rs_lm1 : (-1 : Int64) = rs_L (-1) := rfl
/-- the parts of register r -/
theorem rs_x0 (r : Nat) : 5 * nI r = nI (5 * r) := pk_mul 5 r
theorem rs_xk (r k : Nat) : 5 * nI r + nI k = nI (5 * r + k) := by rw [rs_x0, nI_add]
theorem rs_v0 {r : Nat} (h : r < 6) : vp_in (5 * nI r) 30 = True := by
  rw [rs_x0]; exact eq_true (vp_in_nI (by omega) (by omega))
theorem rs_vk {r : Nat} (k : Nat) (h : r < 6) (hk : k < 5) : vp_in (5 * nI r + nI k) 30 = True := by
  rw [rs_xk]; exact eq_true (vp_in_nI (by omega) (by omega))
theorem rs_v1 {r : Nat} (h : r < 6) : vp_in (5 * nI r + 1) 30 = True := rs_vk 1 h (by omega)
theorem rs_v2 {r : Nat} (h : r < 6) : vp_in (5 * nI r + 2) 30 = True := rs_vk 2 h (by omega)
theorem rs_v3 {r : Nat} (h : r < 6) : vp_in (5 * nI r + 3) 30 = True := rs_vk 3 h (by omega)
theorem rs_v4 {r : Nat} (h : r < 6) : vp_in (5 * nI r + 4) 30 = True := rs_vk 4 h (by omega)
theorem rs_c0 {r : Nat} (h : r < 6) : (5 * nI r).toNatClampNeg = 5 * r := by
  rw [rs_x0]; exact nI_clamp (by omega)
theorem rs_ck {r : Nat} (k : Nat) (h : r < 6) (hk : k < 5) : (5 * nI r + nI k).toNatClampNeg = 5 * r + k := by
  rw [rs_xk]; exact nI_clamp (by omega)
theorem rs_c1 {r : Nat} (h : r < 6) : (5 * nI r + 1).toNatClampNeg = 5 * r + 1 := rs_ck 1 h (by omega)
theorem rs_c2 {r : Nat} (h : r < 6) : (5 * nI r + 2).toNatClampNeg = 5 * r + 2 := rs_ck 2 h (by omega)
theorem rs_c3 {r : Nat} (h : r < 6) : (5 * nI r + 3).toNatClampNeg = 5 * r + 3 := rs_ck 3 h (by omega)
theorem rs_c4 {r : Nat} (h : r < 6) : (5 * nI r + 4).toNatClampNeg = 5 * r + 4 := rs_ck 4 h (by omega)
/-- a register's number, or none -/
def rs_bad (x : Int32) : Prop := x < 0 ∨ ¬ x < 6
theorem rs_reg (x : Int32) : (∃ r : Nat, r < 6 ∧ x = nI r) ∨ rs_bad x := by
  by_cases h : x < 0
  · exact Or.inr (Or.inl h)
  · by_cases h6 : x < 6
    · obtain ⟨j, hj, rfl⟩ := nI_of h
      exact Or.inl ⟨j, (nI_ltI (b := 6) hj (by decide)).mp h6, rfl⟩
    · exact Or.inr (Or.inr h6)
theorem rs_Xg {post : Int32 → Prop} {u : SX} {r : Nat} (hr : r < 6) (h : post 0) : wpX_bad post u (nI r) := by
  obtain ⟨a, b, c, d, m, p, q, P⟩ := u
  exact br_f (nI_pos (by omega)) (br_t (nI_lt (b := 6) hr (by decide)) h)
theorem rs_Xb {post : Int32 → Prop} {u : SX} {x : Int32} (hr : rs_bad x) (h : post 1) : wpX_bad post u x := by
  obtain ⟨a, b, c, d, m, p, q, P⟩ := u
  exact br_c (fun _ => h) (fun n => br_f (hr.resolve_left n) h)
theorem rs_Yg {post : Int32 → Prop} {v : SY} {r : Nat} (hr : r < 6) (h : post 1) : wpY_isRegister post v (nI r) := by
  obtain ⟨P, M, T, C⟩ := v
  exact br_f (nI_pos (by omega)) (br_f (nI_nlt (a := 5) (by omega) (by decide)) h)
theorem rs_Yb {post : Int32 → Prop} {v : SY} {x : Int32} (hr : rs_bad x) (h : post 0) : wpY_isRegister post v x := by
  obtain ⟨P, M, T, C⟩ := v
  refine br_c (fun _ => h) (fun n => br_t ?_ h)
  have h6 := hr.resolve_left n
  rw [Int32.lt_iff_toInt_lt] at h6 ⊢
  have e6 : (6 : Int32).toInt = 6 := by decide
  have e5 : (5 : Int32).toInt = 5 := by decide
  omega
/-- the invariant: every register in lowest terms, within 30 -/
abbrev rs_bd (x : Int) : Prop := -30 ≤ x ∧ x ≤ 30
def rs_g5 (a b c d m : Int) : Nat := Nat.gcd (Nat.gcd (Nat.gcd (Nat.gcd a.natAbs b.natAbs) c.natAbs) d.natAbs) m.natAbs
def rs_ok (a b c d m : Int) : Prop := rs_bd a ∧ rs_bd b ∧ rs_bd c ∧ rs_bd d ∧ 1 ≤ m ∧ m ≤ 30 ∧ rs_g5 a b c d m = 1
def rs_Inv (P : Nat → Int32) : Prop := ∀ r, r < 6 → rs_ok (P (5 * r)).toInt (P (5 * r + 1)).toInt (P (5 * r + 2)).toInt (P (5 * r + 3)).toInt (P (5 * r + 4)).toInt
theorem rs_Xload {post : SX → Prop} {a b c d m p q : Int64} {P : Nat → Int32} {r : Nat} (hr : r < 6)
    (h : post (rs_L (P (5 * r)).toInt, rs_L (P (5 * r + 1)).toInt, rs_L (P (5 * r + 2)).toInt, rs_L (P (5 * r + 3)).toInt, rs_L (P (5 * r + 4)).toInt, p, q, P)) :
    wpX_load post (a, b, c, d, m, p, q, P) (nI r) := by
  simp only [wpX_load, rs_v0 hr, rs_v1 hr, rs_v2 hr, rs_v3 hr, rs_v4 hr, rs_c0 hr, rs_c1 hr, rs_c2 hr, rs_c3 hr, rs_c4 hr, true_and, forall_eq]
  exact h
end
section
/-! the two gcd loops -/
/-- Euclid from (u, v) ends within t steps -/
def rs_S : Nat → Nat → Nat → Prop
  | 0, _, v => v = 0
  | t + 1, u, v => v = 0 ∨ rs_S t v (u % v)
theorem rs_half {v w z q K : Nat} (h : v < K * 2) (hz : z < w) (e : w * q + z = v) (hq : w ≤ w * q) : z < K := by omega
theorem rs_S_pow : ∀ (k u v : Nat), v < 2 ^ k → rs_S (2 * k) u v := by
  intro k
  induction k with
  | zero => intro u v h; exact Nat.lt_one_iff.mp h
  | succ k ih =>
    intro u v h
    show v = 0 ∨ (u % v = 0 ∨ rs_S (2 * k) (u % v) (v % (u % v)))
    by_cases h0 : v = 0
    · exact Or.inl h0
    · by_cases h1 : u % v = 0
      · exact Or.inr (Or.inl h1)
      · refine Or.inr (Or.inr (ih _ _ ?_))
        rw [Nat.pow_succ] at h
        have h2 : u % v < v := Nat.mod_lt _ (by omega)
        have h3 : v % (u % v) < u % v := Nat.mod_lt _ (Nat.pos_of_ne_zero h1)
        have h5 : 1 ≤ v / (u % v) := Nat.div_pos (Nat.le_of_lt h2) (Nat.pos_of_ne_zero h1)
        exact rs_half h h3 (Nat.div_add_mod v (u % v)) (Nat.le_mul_of_pos_right _ h5)
theorem rs_mlt {u v : Nat} (h0 : v ≠ 0) (hv : v < 2 ^ 62) : u % v < 2 ^ 62 := Nat.lt_trans (Nat.mod_lt _ (Nat.pos_of_ne_zero h0)) hv
theorem rs_lz {v : Nat} (h : v ≠ 0) (hv : v < 2 ^ 62) : ¬ lN v = 0 :=
  fun z => h ((pk_lEQ (b := 0) (by omega) (by decide)).mp z)
theorem rs_Xgcd {post : Int64 → Prop} {a b c d m p q : Int64} {P : Nat → Int32} : ∀ (t n i u v : Nat), rs_S t u v → i + t ≤ 100 → t < n → u < 2 ^ 62 → v < 2 ^ 62 → post (lN (Nat.gcd v u)) → wX_common_17 post a b c d m p q P n (lN u) (lN v) (nI i) := by
  intro t
  induction t with
  | zero =>
    intro n i u v hS hi hn hu hv hp
    obtain ⟨n, rfl⟩ : ∃ k, n = k + 1 := ⟨n - 1, by omega⟩
    have h0 : v = 0 := hS
    subst h0
    rw [Nat.gcd_zero_left] at hp
    exact br_c (fun _ => hp) (fun _ => br_t rfl hp)
  | succ t ih =>
    intro n i u v hS hi hn hu hv hp
    obtain ⟨n, rfl⟩ : ∃ k, n = k + 1 := ⟨n - 1, by omega⟩
    by_cases h0 : v = 0
    · subst h0
      rw [Nat.gcd_zero_left] at hp
      exact br_c (fun _ => hp) (fun _ => br_t rfl hp)
    · have hS' : rs_S t v (u % v) := Or.resolve_left hS h0
      have hz := rs_lz h0 hv
      rw [Nat.gcd_rec] at hp
      exact br_f (nI_ge (b := 100) (by omega) (by decide)) (br_f hz ⟨hz, nm_r (pk_lRem (by omega) (Nat.pos_of_ne_zero h0) (by omega)) (nm_r (nI_1 i) (ih n (i + 1) v (u % v) hS' (by omega) (by omega) hv (rs_mlt h0 hv) hp))⟩)
theorem rs_Ygcd {post : Int64 → Prop} {P : Nat → Int32} {M T C : Nat → Int64} : ∀ (t n u v : Nat), rs_S t u v → t < n → u < 2 ^ 62 → v < 2 ^ 62 → post (lN (Nat.gcd v u)) → wY_divisor_28 post P M T C n (lN u) (lN v) := by
  intro t
  induction t with
  | zero =>
    intro n u v hS hn hu hv hp
    obtain ⟨n, rfl⟩ : ∃ k, n = k + 1 := ⟨n - 1, by omega⟩
    have h0 : v = 0 := hS
    subst h0
    rw [Nat.gcd_zero_left] at hp
    exact br_t ((pk_lLE (a := 0) (b := 0) (by decide) (by decide)).mpr (Nat.le_refl 0)) hp
  | succ t ih =>
    intro n u v hS hn hu hv hp
    obtain ⟨n, rfl⟩ : ∃ k, n = k + 1 := ⟨n - 1, by omega⟩
    by_cases h0 : v = 0
    · subst h0
      rw [Nat.gcd_zero_left] at hp
      exact br_t ((pk_lLE (a := 0) (b := 0) (by decide) (by decide)).mpr (Nat.le_refl 0)) hp
    · have hS' : rs_S t v (u % v) := Or.resolve_left hS h0
      have hz := rs_lz h0 hv
      have hl : ¬ lN v ≤ 0 := fun z => h0 (Nat.le_zero.mp ((pk_lLE (b := 0) (by omega) (by decide)).mp z))
      rw [Nat.gcd_rec] at hp
      exact br_f hl ⟨hz, nm_r (pk_lRem (by omega) (Nat.pos_of_ne_zero h0) (by omega)) (ih n v (u % v) hS' (by omega) hv (rs_mlt h0 hv) hp)⟩
/-- small: below 2^49 -/
abbrev rs_s (z : Int) : Prop := -562949953421312 < z ∧ z < 562949953421312
theorem rs_sr {z : Int} (h : rs_s z) : rs_r z := ⟨by have := h.1; omega, by have := h.2; omega⟩
theorem rs_0r : rs_r 0 := ⟨by omega, by omega⟩
theorem rs_0le {z : Int} (h : rs_r z) : 0 ≤ rs_L z ↔ 0 ≤ z := by rw [rs_l0]; exact rs_le rs_0r h
theorem rs_0lt {z : Int} (h : rs_r z) : 0 < rs_L z ↔ 0 < z := by rw [rs_l0]; exact rs_lt rs_0r h
theorem rs_eq0 {z : Int} (h : rs_r z) : rs_L z = 0 ↔ z = 0 := by rw [rs_l0]; exact rs_eq h rs_0r
theorem rs_abs0 {z : Int} (h : 0 ≤ z) : rs_L z = lN z.natAbs := by
  rw [← rs_N, Int.natAbs_of_nonneg h]
theorem rs_abs1 {z : Int} (h : ¬ 0 ≤ z) : -rs_L z = lN z.natAbs := by
  rw [← rs_N, rs_neg, Int.ofNat_natAbs_of_nonpos (by omega)]
theorem rs_Xsize {post : Int64 → Prop} {u : SX} {z : Int} (hz : rs_r z) (h : post (lN z.natAbs)) : wpX_size post u (rs_L z) := by
  obtain ⟨a, b, c, d, m, p, q, P⟩ := u
  refine br_c (fun h0 => ?_) (fun h0 => ?_)
  · rw [rs_abs0 ((rs_0le hz).mp h0)]; exact h
  · rw [rs_abs1 (fun k => h0 ((rs_0le hz).mpr k))]; exact h
theorem rs_nab {z : Int} (h : rs_s z) : z.natAbs < 2 ^ 49 := by
  have h1 := h.1
  have h2 := h.2
  omega
theorem rs_Xcommon {post : Int64 → Prop} {u : SX} {x y : Int} (hx : rs_s x) (hy : rs_s y) (h : post (lN (Nat.gcd x.natAbs y.natAbs))) : wpX_common post u (rs_L x) (rs_L y) := by
  obtain ⟨a, b, c, d, m, p, q, P⟩ := u
  unfold wpX_common
  dsimp only
  have h1 := rs_nab hx
  have h2 := rs_nab hy
  rw [Nat.gcd_comm] at h
  exact rs_Xsize (rs_sr hx) (rs_Xsize (rs_sr hy) ⟨101, rs_Xgcd 98 101 0 _ _ (rs_S_pow 49 _ _ h2) (by omega) (by omega) (by omega) (by omega) h⟩)
theorem rs_Y12 {post : Int64 → Prop} {P : Nat → Int32} {M T C : Nat → Int64} {x : Nat} {y : Int} (hx : x < 2 ^ 49) (hy : rs_s y) (h : post (lN (Nat.gcd x y.natAbs))) : wY_divisor_12 post (rs_L y) (lN x) P M T C := by
  have h2 := rs_nab hy
  rw [Nat.gcd_comm] at h
  have G : wY_divisor_28 post P M T C 101 (lN x) (lN y.natAbs) := rs_Ygcd 98 101 _ _ (rs_S_pow 49 _ _ h2) (by omega) (by omega) (by omega) h
  refine br_c (fun h0 => ⟨101, ?_⟩) (fun h0 => nm_r (rs_abs1 (fun k => h0 ((rs_0le (rs_sr hy)).mpr k))) ⟨101, G⟩)
  rw [rs_abs0 ((rs_0le (rs_sr hy)).mp h0)]
  exact G
theorem rs_Ydiv {post : Int64 → Prop} {v : SY} {x y : Int} (hx : rs_s x) (hy : rs_s y) (h : post (lN (Nat.gcd x.natAbs y.natAbs))) : wpY_divisor post v (rs_L x) (rs_L y) := by
  obtain ⟨P, M, T, C⟩ := v
  have h1 := rs_nab hx
  have G : wY_divisor_12 post (rs_L y) (lN x.natAbs) P M T C := rs_Y12 h1 hy h
  refine br_c (fun h0 => ?_) (fun h0 => ?_)
  · rw [rs_abs0 ((rs_0le (rs_sr hx)).mp h0)]; exact G
  · rw [rs_abs1 (fun k => h0 ((rs_0le (rs_sr hx)).mpr k))]; exact G
/-- a gcd is within -/
theorem rs_glt {x y K : Nat} (hx : x < K) (hy : y < K) : Nat.gcd x y < K := by
  by_cases h : x = 0
  · subst h; rw [Nat.gcd_zero_left]; exact hy
  · exact Nat.lt_of_le_of_lt (Nat.gcd_le_left _ (Nat.pos_of_ne_zero h)) hx
theorem rs_gs {n : Nat} (h : n < 2 ^ 49) : rs_s (n : Int) := ⟨by omega, by omega⟩
end
section
/-! lower, store of X; shorten, take of Y: one outcome -/
def rs_G (a b c d m : Int) : Int := if m < 0 then -(rs_g5 a b c d m : Int) else (rs_g5 a b c d m : Int)
theorem rs_g5pos {a b c d m : Int} (hm : m ≠ 0) : 0 < rs_g5 a b c d m :=
  Nat.gcd_pos_of_pos_right _ (by omega)
theorem rs_g5lt {a b c d m : Int} (ha : rs_s a) (hb : rs_s b) (hc : rs_s c) (hd : rs_s d) (hm : rs_s m) : rs_g5 a b c d m < 2 ^ 49 :=
  rs_glt (rs_glt (rs_glt (rs_glt (rs_nab ha) (rs_nab hb)) (rs_nab hc)) (rs_nab hd)) (rs_nab hm)
theorem rs_ns {z : Int} (h : rs_s z) : rs_s (-z) := ⟨by have := h.2; omega, by have := h.1; omega⟩
theorem rs_ts {z w : Int} (h : rs_s z) : rs_s (z.tdiv w) := by
  have h1 := Int.natAbs_tdiv_le_natAbs z w
  have h2 := rs_nab h
  exact ⟨by omega, by omega⟩
theorem rs_X54 {post : SX → Prop} {a b c d m : Int} {p q : Int64} {P : Nat → Int32} (g : Nat) (hg : rs_g5 a b c d m = g) (ha : rs_s a) (hb : rs_s b) (hc : rs_s c) (hd : rs_s d) (hm : rs_s m) (h0 : m ≠ 0)
    (h : post (rs_L (a.tdiv g), rs_L (b.tdiv g), rs_L (c.tdiv g), rs_L (d.tdiv g), rs_L (m.tdiv g), p, q, P)) :
    wX_lower_54 post (rs_L a) (rs_L b) (rs_L c) (rs_L d) (rs_L m) p q P := by
  have g1 := rs_glt (rs_nab ha) (rs_nab hb)
  have g2 := rs_glt g1 (rs_nab hc)
  have g3 := rs_glt g2 (rs_nab hd)
  have g4 : g < 2 ^ 49 := hg ▸ rs_g5lt ha hb hc hd hm
  have gp : 0 < g := hg ▸ rs_g5pos h0
  have gz : ¬ lN g = 0 := rs_lz (by omega) (by omega)
  unfold wX_lower_54
  refine rs_Xcommon ha hb ?_
  rw [← rs_N]
  refine rs_Xcommon (rs_gs g1) hc ?_
  rw [← rs_N]
  refine rs_Xcommon (rs_gs g2) hd ?_
  rw [← rs_N]
  refine rs_Xcommon (rs_gs g3) hm ?_
  rw [show (((a.natAbs.gcd b.natAbs : Nat) : Int).natAbs.gcd c.natAbs : Nat) = (a.natAbs.gcd b.natAbs).gcd c.natAbs from rfl, show ((((a.natAbs.gcd b.natAbs).gcd c.natAbs : Nat) : Int).natAbs.gcd d.natAbs : Nat) = ((a.natAbs.gcd b.natAbs).gcd c.natAbs).gcd d.natAbs from rfl, show (((((a.natAbs.gcd b.natAbs).gcd c.natAbs).gcd d.natAbs : Nat) : Int).natAbs.gcd m.natAbs : Nat) = rs_g5 a b c d m from rfl, hg]
  have gr : rs_r (g : Int) := rs_sr (rs_gs g4)
  have D : ∀ z : Int, rs_s z → rs_L z / lN g = rs_L (z.tdiv g) := fun z hz => by rw [← rs_N]; exact rs_div (rs_sr hz) gr
  refine br_c (fun h1 => ?_) (fun h1 => ⟨gz, nm_r (D a ha) ⟨gz, nm_r (D b hb) ⟨gz, nm_r (D c hc) ⟨gz, nm_r (D d hd) ⟨gz, nm_r (D m hm) h⟩⟩⟩⟩⟩)
  have e : g = 1 := by
    have := (pk_lLE (a := g) (b := 1) (by omega) (by decide)).mp h1
    omega
  subst e
  have e1 : ∀ z : Int, z.tdiv ((1 : Nat) : Int) = z := fun z => Int.tdiv_one z
  rw [e1, e1, e1, e1, e1] at h
  exact h
theorem rs_g5n (a b c d m : Int) : rs_g5 (-a) (-b) (-c) (-d) (-m) = rs_g5 a b c d m := by
  unfold rs_g5
  rw [Int.natAbs_neg, Int.natAbs_neg, Int.natAbs_neg, Int.natAbs_neg, Int.natAbs_neg]
theorem rs_Xlower {post : SX → Prop} {a b c d m : Int} {p q : Int64} {P : Nat → Int32} (ha : rs_s a) (hb : rs_s b) (hc : rs_s c) (hd : rs_s d) (hm : rs_s m) (h0 : m ≠ 0) (G : Int) (hG : rs_G a b c d m = G)
    (h : post (rs_L (a.tdiv G), rs_L (b.tdiv G), rs_L (c.tdiv G), rs_L (d.tdiv G), rs_L (m.tdiv G), p, q, P)) :
    wpX_lower post (rs_L a, rs_L b, rs_L c, rs_L d, rs_L m, p, q, P) := by
  refine br_c (fun k => ?_) (fun k => ?_)
  · have k' := (rs_0le (rs_sr hm)).mp k
    have e : (rs_g5 a b c d m : Int) = G := by rw [← hG]; exact (if_neg (by omega)).symm
    refine rs_X54 _ rfl ha hb hc hd hm h0 ?_
    rw [e]
    exact h
  · have k' : ¬ 0 ≤ m := fun z => k ((rs_0le (rs_sr hm)).mpr z)
    have e : -(rs_g5 a b c d m : Int) = G := by rw [← hG]; exact (if_pos (by omega)).symm
    refine nm_r (rs_neg a) (nm_r (rs_neg b) (nm_r (rs_neg c) (nm_r (rs_neg d) (nm_r (rs_neg m) ?_))))
    refine rs_X54 _ (rs_g5n a b c d m) (rs_ns ha) (rs_ns hb) (rs_ns hc) (rs_ns hd) (rs_ns hm) (by omega) ?_
    have f : ∀ z : Int, (-z).tdiv (rs_g5 a b c d m : Int) = z.tdiv G := fun z => by rw [← e, Int.neg_tdiv, Int.tdiv_neg]
    rw [f, f, f, f, f]
    exact h
theorem rs_Xin {post : Int32 → Prop} {u : SX} {z : Int} (hz : rs_s z) (hb : rs_bd z) (h : post 0) : wpX_beyond post u (rs_L z) := by
  obtain ⟨a, b, c, d, m, p, q, P⟩ := u
  have h1 := rs_nab hz
  unfold wpX_beyond
  dsimp only
  refine rs_Xsize (rs_sr hz) (br_t ((pk_lLE (b := 30) (by omega) (by decide)).mpr ?_) h)
  have := hb.1
  have := hb.2
  omega
theorem rs_Xout {post : Int32 → Prop} {u : SX} {z : Int} (hz : rs_s z) (hb : ¬ rs_bd z) (h : post 1) : wpX_beyond post u (rs_L z) := by
  obtain ⟨a, b, c, d, m, p, q, P⟩ := u
  have h1 := rs_nab hz
  unfold wpX_beyond
  dsimp only
  refine rs_Xsize (rs_sr hz) (br_f (fun k => hb ?_) h)
  have := (pk_lLE (b := 30) (by omega) (by decide)).mp k
  exact ⟨by omega, by omega⟩
/-- five parts written -/
def rs_up5 (P : Nat → Int32) (r : Nat) (a b c d m : Int) : Nat → Int32 :=
  upd (upd (upd (upd (upd P (5 * r) (rs_I a)) (5 * r + 1) (rs_I b)) (5 * r + 2) (rs_I c)) (5 * r + 3) (rs_I d)) (5 * r + 4) (rs_I m)
def rs_fit (a b c d m : Int) : Prop := rs_bd a ∧ rs_bd b ∧ rs_bd c ∧ rs_bd d ∧ rs_bd m
theorem rs_Xstore1 {post : Int32 → SX → Prop} {a b c d m : Int} {p q : Int64} {P : Nat → Int32} {r : Nat} (hr : r < 6) (ha : rs_s a) (hb : rs_s b) (hc : rs_s c) (hd : rs_s d) (hm : rs_s m) (h0 : m ≠ 0) (G : Int) (hG : rs_G a b c d m = G)
    (hf : rs_fit (a.tdiv G) (b.tdiv G) (c.tdiv G) (d.tdiv G) (m.tdiv G))
    (h : ∀ x1 x2 x3 x4 x5 : Int64, post 0 (x1, x2, x3, x4, x5, p, q, rs_up5 P r (a.tdiv G) (b.tdiv G) (c.tdiv G) (d.tdiv G) (m.tdiv G))) :
    wpX_store post (rs_L a, rs_L b, rs_L c, rs_L d, rs_L m, p, q, P) (nI r) := by
  unfold wpX_store
  dsimp only
  refine rs_Xlower ha hb hc hd hm h0 G hG ?_
  refine rs_Xin (rs_ts ha) hf.1 (br_t rfl ?_)
  refine rs_Xin (rs_ts hb) hf.2.1 (br_t rfl ?_)
  refine rs_Xin (rs_ts hc) hf.2.2.1 (br_t rfl ?_)
  refine rs_Xin (rs_ts hd) hf.2.2.2.1 (br_t rfl ?_)
  refine rs_Xin (rs_ts hm) hf.2.2.2.2 (br_t rfl ?_)
  simp only [rs_v0 hr, rs_v1 hr, rs_v2 hr, rs_v3 hr, rs_v4 hr, rs_c0 hr, rs_c1 hr, rs_c2 hr, rs_c3 hr, rs_c4 hr, true_and, forall_eq, rs_L32]
  exact h _ _ _ _ _
theorem rs_01 : ¬ (1 : Int32) = 0 := by decide
theorem rs_Xstore2 {post : Int32 → SX → Prop} {a b c d m : Int} {p q : Int64} {P : Nat → Int32} {x : Int32} (ha : rs_s a) (hb : rs_s b) (hc : rs_s c) (hd : rs_s d) (hm : rs_s m) (h0 : m ≠ 0) (G : Int) (hG : rs_G a b c d m = G)
    (hf : ¬ rs_fit (a.tdiv G) (b.tdiv G) (c.tdiv G) (d.tdiv G) (m.tdiv G))
    (h : ∀ x1 x2 x3 x4 x5 : Int64, post (-2000000) (x1, x2, x3, x4, x5, p, q, P)) :
    wpX_store post (rs_L a, rs_L b, rs_L c, rs_L d, rs_L m, p, q, P) x := by
  unfold wpX_store
  dsimp only
  refine rs_Xlower ha hb hc hd hm h0 G hG ?_
  by_cases f1 : rs_bd (a.tdiv G)
  · refine rs_Xin (rs_ts ha) f1 (br_t rfl ?_)
    by_cases f2 : rs_bd (b.tdiv G)
    · refine rs_Xin (rs_ts hb) f2 (br_t rfl ?_)
      by_cases f3 : rs_bd (c.tdiv G)
      · refine rs_Xin (rs_ts hc) f3 (br_t rfl ?_)
        by_cases f4 : rs_bd (d.tdiv G)
        · refine rs_Xin (rs_ts hd) f4 (br_t rfl ?_)
          exact rs_Xout (rs_ts hm) (fun f5 => hf ⟨f1, f2, f3, f4, f5⟩) (br_f rs_01 (h _ _ _ _ _))
        · exact rs_Xout (rs_ts hd) f4 (br_f rs_01 (h _ _ _ _ _))
      · exact rs_Xout (rs_ts hc) f3 (br_f rs_01 (h _ _ _ _ _))
    · exact rs_Xout (rs_ts hb) f2 (br_f rs_01 (h _ _ _ _ _))
  · exact rs_Xout (rs_ts ha) f1 (br_f rs_01 (h _ _ _ _ _))
/-- made holds five longs -/
def rs_M5 (M : Nat → Int64) (a b c d m : Int) : Prop := M 0 = rs_L a ∧ M 1 = rs_L b ∧ M 2 = rs_L c ∧ M 3 = rs_L d ∧ M 4 = rs_L m
theorem rs_in5_0 : vp_in 0 5 := vp_in_nI (n := 0) (by decide) (by decide)
theorem rs_in5_1 : vp_in 1 5 := vp_in_nI (n := 1) (by decide) (by decide)
theorem rs_in5_2 : vp_in 2 5 := vp_in_nI (n := 2) (by decide) (by decide)
theorem rs_in5_3 : vp_in 3 5 := vp_in_nI (n := 3) (by decide) (by decide)
theorem rs_in5_4 : vp_in 4 5 := vp_in_nI (n := 4) (by decide) (by decide)
theorem rs_n50 : ¬ (5 : Int32) ≤ 0 := by decide
theorem rs_n51 : ¬ (5 : Int32) ≤ 1 := by decide
theorem rs_n52 : ¬ (5 : Int32) ≤ 2 := by decide
theorem rs_n53 : ¬ (5 : Int32) ≤ 3 := by decide
theorem rs_n54 : ¬ (5 : Int32) ≤ 4 := by decide
theorem rs_y55 : (5 : Int32) ≤ 5 := by decide
theorem rs_k0 : (0 : Int32).toNatClampNeg = 0 := by decide
theorem rs_k1 : (1 : Int32).toNatClampNeg = 1 := by decide
theorem rs_k2 : (2 : Int32).toNatClampNeg = 2 := by decide
theorem rs_k3 : (3 : Int32).toNatClampNeg = 3 := by decide
theorem rs_k4 : (4 : Int32).toNatClampNeg = 4 := by decide
theorem rs_a0 : (0 : Int32) + 1 = 1 := by decide
theorem rs_a1 : (1 : Int32) + 1 = 2 := by decide
theorem rs_a2 : (2 : Int32) + 1 = 3 := by decide
theorem rs_a3 : (3 : Int32) + 1 = 4 := by decide
theorem rs_a4 : (4 : Int32) + 1 = 5 := by decide
theorem rs_Y47 {post : SY → Prop} {P : Nat → Int32} {M T C : Nat → Int64} {a b c d m G : Int} (ha : rs_s a) (hb : rs_s b) (hc : rs_s c) (hd : rs_s d) (hm : rs_s m) (hG : rs_s G) (h0 : G ≠ 0) (hM : rs_M5 M a b c d m)
    (h : ∀ M' : Nat → Int64, rs_M5 M' (a.tdiv G) (b.tdiv G) (c.tdiv G) (d.tdiv G) (m.tdiv G) → post (P, M', T, C)) :
    wY_shorten_47 post (rs_L G) 6 0 P M T C := by
  have z : ¬ rs_L G = 0 := fun k => h0 ((rs_eq0 (rs_sr hG)).mp k)
  have D : ∀ z : Int, rs_s z → rs_L z / rs_L G = rs_L (z.tdiv G) := fun z hz => rs_div (rs_sr hz) (rs_sr hG)
  obtain ⟨m0, m1, m2, m3, m4⟩ := hM
  refine br_f rs_n50 (br_f z ⟨rs_in5_0, z, rs_in5_0, nm_e (nm_r rs_a0 ?_)⟩)
  refine br_f rs_n51 (br_f z ⟨rs_in5_1, z, rs_in5_1, nm_e (nm_r rs_a1 ?_)⟩)
  refine br_f rs_n52 (br_f z ⟨rs_in5_2, z, rs_in5_2, nm_e (nm_r rs_a2 ?_)⟩)
  refine br_f rs_n53 (br_f z ⟨rs_in5_3, z, rs_in5_3, nm_e (nm_r rs_a3 ?_)⟩)
  refine br_f rs_n54 (br_f z ⟨rs_in5_4, z, rs_in5_4, nm_e (nm_r rs_a4 ?_)⟩)
  refine br_t rs_y55 (h _ ?_)
  simp only [rs_M5, rs_k0, rs_k1, rs_k2, rs_k3, rs_k4]
  refine ⟨?_, ?_, ?_, ?_, ?_⟩
  · show M 0 / rs_L G = _
    rw [m0, D a ha]
  · show M 1 / rs_L G = _
    rw [m1, D b hb]
  · show M 2 / rs_L G = _
    rw [m2, D c hc]
  · show M 3 / rs_L G = _
    rw [m3, D d hd]
  · show M 4 / rs_L G = _
    rw [m4, D m hm]
theorem rs_Yshorten {post : SY → Prop} {P : Nat → Int32} {M T C : Nat → Int64} {a b c d m : Int} (ha : rs_s a) (hb : rs_s b) (hc : rs_s c) (hd : rs_s d) (hm : rs_s m) (h0 : m ≠ 0) (hM : rs_M5 M a b c d m) (G : Int) (hG : rs_G a b c d m = G)
    (h : ∀ M' : Nat → Int64, rs_M5 M' (a.tdiv G) (b.tdiv G) (c.tdiv G) (d.tdiv G) (m.tdiv G) → post (P, M', T, C)) :
    wpY_shorten post (P, M, T, C) := by
  have g1 := rs_glt (rs_nab ha) (rs_nab hb)
  have g2 := rs_glt g1 (rs_nab hc)
  have g3 := rs_glt g2 (rs_nab hd)
  have g4 := rs_g5lt ha hb hc hd hm
  have gp := rs_g5pos (a := a) (b := b) (c := c) (d := d) h0
  obtain ⟨m0, m1, m2, m3, m4⟩ := hM
  refine ⟨6, ?_⟩
  refine br_f rs_n50 ⟨rs_in5_0, ?_⟩
  rw [rs_k0, m0]
  refine rs_Ydiv (x := 0) ⟨by omega, by omega⟩ ha (nm_r rs_a0 ?_)
  rw [show ((0 : Int).natAbs.gcd a.natAbs : Nat) = a.natAbs from Nat.gcd_zero_left _, ← rs_N]
  refine br_f rs_n51 ⟨rs_in5_1, ?_⟩
  rw [rs_k1, m1]
  refine rs_Ydiv (rs_gs (rs_nab ha)) hb (nm_r rs_a1 ?_)
  rw [show ((a.natAbs : Int).natAbs.gcd b.natAbs : Nat) = a.natAbs.gcd b.natAbs from rfl, ← rs_N]
  refine br_f rs_n52 ⟨rs_in5_2, ?_⟩
  rw [rs_k2, m2]
  refine rs_Ydiv (rs_gs g1) hc (nm_r rs_a2 ?_)
  rw [show (((a.natAbs.gcd b.natAbs : Nat) : Int).natAbs.gcd c.natAbs : Nat) = (a.natAbs.gcd b.natAbs).gcd c.natAbs from rfl, ← rs_N]
  refine br_f rs_n53 ⟨rs_in5_3, ?_⟩
  rw [rs_k3, m3]
  refine rs_Ydiv (rs_gs g2) hd (nm_r rs_a3 ?_)
  rw [show ((((a.natAbs.gcd b.natAbs).gcd c.natAbs : Nat) : Int).natAbs.gcd d.natAbs : Nat) = ((a.natAbs.gcd b.natAbs).gcd c.natAbs).gcd d.natAbs from rfl, ← rs_N]
  refine br_f rs_n54 ⟨rs_in5_4, ?_⟩
  rw [rs_k4, m4]
  refine rs_Ydiv (rs_gs g3) hm (nm_r rs_a4 ?_)
  rw [show (((((a.natAbs.gcd b.natAbs).gcd c.natAbs).gcd d.natAbs : Nat) : Int).natAbs.gcd m.natAbs : Nat) = rs_g5 a b c d m from rfl, ← rs_N]
  refine br_t rs_y55 (br_c (fun k => ⟨6, ?_⟩) (fun k => nm_r (rs_neg _) ⟨6, ?_⟩))
  · rw [m4, rs_0le (rs_sr hm)] at k
    have e : (rs_g5 a b c d m : Int) = G := by rw [← hG]; exact (if_neg (by omega)).symm
    rw [e]
    exact rs_Y47 ha hb hc hd hm (e ▸ rs_gs g4) (by omega) ⟨m0, m1, m2, m3, m4⟩ h
  · rw [m4, rs_0le (rs_sr hm)] at k
    have e : -(rs_g5 a b c d m : Int) = G := by rw [← hG]; exact (if_pos (by omega)).symm
    rw [e]
    exact rs_Y47 ha hb hc hd hm (e ▸ rs_ns (rs_gs g4)) (by omega) ⟨m0, m1, m2, m3, m4⟩ h
end
section
/-! take of Y, the invariant kept -/
theorem rs_Y48 {post : Int32 → SY → Prop} {P : Nat → Int32} {M T C : Nat → Int64} {a b c d m : Int} {r : Nat} (hr : r < 6) (hM : rs_M5 M a b c d m)
    (h : post 0 (rs_up5 P r a b c d m, M, T, C)) : wY_take_48 post (nI r) 6 0 P M T C := by
  obtain ⟨m0, m1, m2, m3, m4⟩ := hM
  have v (k : Nat) (hk : k < 5) : vp_in (5 * nI r + nI k) 30 := (rs_vk k hr hk).symm ▸ trivial
  have e (k : Nat) (hk : k < 5) (Q : Nat → Int32) (z : Int) (mz : M k = rs_L z) : upd Q (5 * nI r + nI k).toNatClampNeg (M k).toInt32 = upd Q (5 * r + k) (rs_I z) := by
    rw [rs_ck k hr hk, mz, rs_L32]
  refine br_f rs_n50 ⟨rs_in5_0, v 0 (by decide), nm_r (e 0 (by decide) P a m0) (nm_r rs_a0 ?_)⟩
  refine br_f rs_n51 ⟨rs_in5_1, v 1 (by decide), nm_r (e 1 (by decide) _ b m1) (nm_r rs_a1 ?_)⟩
  refine br_f rs_n52 ⟨rs_in5_2, v 2 (by decide), nm_r (e 2 (by decide) _ c m2) (nm_r rs_a2 ?_)⟩
  refine br_f rs_n53 ⟨rs_in5_3, v 3 (by decide), nm_r (e 3 (by decide) _ d m3) (nm_r rs_a3 ?_)⟩
  refine br_f rs_n54 ⟨rs_in5_4, v 4 (by decide), nm_r (e 4 (by decide) _ m m4) (nm_r rs_a4 ?_)⟩
  exact br_t rs_y55 h
theorem rs_30r : rs_r 30 := ⟨by omega, by omega⟩
theorem rs_m30r : rs_r (-30) := ⟨by omega, by omega⟩
theorem rs_l30 : (30 : Int64) = rs_L 30 := by decide
theorem rs_lm30 : (-30 : Int64) = rs_L (-30) := by decide
theorem rs_le30 {z : Int} (hz : rs_r z) : (-30 : Int64) ≤ rs_L z ↔ -30 ≤ z := by rw [rs_lm30]; exact rs_le rs_m30r hz
theorem rs_lt30 {z : Int} (hz : rs_r z) : (30 : Int64) < rs_L z ↔ 30 < z := by rw [rs_l30]; exact rs_lt rs_30r hz
/-- one check of the loop at 6 -/
theorem rs_chk {A1 A2 B : Prop} {V : Prop} {w : Int64} {z : Int} (hw : w = rs_L z) (hz : rs_r z) (hv : V) (f : rs_bd z → B) (g : ¬ rs_bd z → A1) (g' : ¬ rs_bd z → A2) :
    (30 < w → A1) ∧ (¬ 30 < w → (V ∧ (((-30) ≤ w → B) ∧ (¬ (-30) ≤ w → A2)))) := by
  subst hw
  rw [rs_lt30 hz, rs_le30 hz]
  exact ⟨fun k => g (fun b => by have := b.2; omega), fun k => ⟨hv, fun j => f ⟨j, by omega⟩, fun j => g' (fun b => j b.1)⟩⟩
theorem rs_Y6 {post : Int32 → SY → Prop} {P : Nat → Int32} {M T C : Nat → Int64} {a b c d m : Int} {x : Int32} (ha : rs_s a) (hb : rs_s b) (hc : rs_s c) (hd : rs_s d) (hm : rs_s m) (hM : rs_M5 M a b c d m)
    (h1 : rs_fit a b c d m → ∃ n, wY_take_48 post x n 0 P M T C) (h2 : ¬ rs_fit a b c d m → post (-2000000) (P, M, T, C)) : wY_take_6 post x P M T C 6 0 := by
  obtain ⟨m0, m1, m2, m3, m4⟩ := hM
  refine br_f rs_n50 ⟨rs_in5_0, rs_chk m0 (rs_sr ha) rs_in5_0 (fun f1 => nm_r rs_a0 ?_) (fun n => h2 (fun q => n q.1)) (fun n => h2 (fun q => n q.1))⟩
  refine br_f rs_n51 ⟨rs_in5_1, rs_chk m1 (rs_sr hb) rs_in5_1 (fun f2 => nm_r rs_a1 ?_) (fun n => h2 (fun q => n q.2.1)) (fun n => h2 (fun q => n q.2.1))⟩
  refine br_f rs_n52 ⟨rs_in5_2, rs_chk m2 (rs_sr hc) rs_in5_2 (fun f3 => nm_r rs_a2 ?_) (fun n => h2 (fun q => n q.2.2.1)) (fun n => h2 (fun q => n q.2.2.1))⟩
  refine br_f rs_n53 ⟨rs_in5_3, rs_chk m3 (rs_sr hd) rs_in5_3 (fun f4 => nm_r rs_a3 ?_) (fun n => h2 (fun q => n q.2.2.2.1)) (fun n => h2 (fun q => n q.2.2.2.1))⟩
  refine br_f rs_n54 ⟨rs_in5_4, rs_chk m4 (rs_sr hm) rs_in5_4 (fun f5 => nm_r rs_a4 ?_) (fun n => h2 (fun q => n q.2.2.2.2)) (fun n => h2 (fun q => n q.2.2.2.2))⟩
  exact br_t rs_y55 (h1 ⟨f1, f2, f3, f4, f5⟩)
theorem rs_Ytake1 {post : Int32 → SY → Prop} {P : Nat → Int32} {M T C : Nat → Int64} {a b c d m : Int} {r : Nat} (hr : r < 6) (ha : rs_s a) (hb : rs_s b) (hc : rs_s c) (hd : rs_s d) (hm : rs_s m) (h0 : m ≠ 0) (hM : rs_M5 M a b c d m) (G : Int) (hG : rs_G a b c d m = G)
    (hf : rs_fit (a.tdiv G) (b.tdiv G) (c.tdiv G) (d.tdiv G) (m.tdiv G))
    (h : ∀ M', post 0 (rs_up5 P r (a.tdiv G) (b.tdiv G) (c.tdiv G) (d.tdiv G) (m.tdiv G), M', T, C)) : wpY_take post (P, M, T, C) (nI r) := by
  unfold wpY_take
  dsimp only
  refine rs_Yshorten ha hb hc hd hm h0 hM G hG (fun M' hM' => ⟨6, ?_⟩)
  exact rs_Y6 (rs_ts ha) (rs_ts hb) (rs_ts hc) (rs_ts hd) (rs_ts hm) hM' (fun _ => ⟨6, rs_Y48 hr hM' (h M')⟩) (fun n => absurd hf n)
theorem rs_Ytake2 {post : Int32 → SY → Prop} {P : Nat → Int32} {M T C : Nat → Int64} {a b c d m : Int} {x : Int32} (ha : rs_s a) (hb : rs_s b) (hc : rs_s c) (hd : rs_s d) (hm : rs_s m) (h0 : m ≠ 0) (hM : rs_M5 M a b c d m) (G : Int) (hG : rs_G a b c d m = G)
    (hf : ¬ rs_fit (a.tdiv G) (b.tdiv G) (c.tdiv G) (d.tdiv G) (m.tdiv G))
    (h : ∀ M', post (-2000000) (P, M', T, C)) : wpY_take post (P, M, T, C) x := by
  unfold wpY_take
  dsimp only
  refine rs_Yshorten ha hb hc hd hm h0 hM G hG (fun M' hM' => ⟨6, ?_⟩)
  exact rs_Y6 (rs_ts ha) (rs_ts hb) (rs_ts hc) (rs_ts hd) (rs_ts hm) hM' (fun n => absurd n hf) (fun _ => h M')
/-- lowest terms -/
theorem rs_Gabs (a b c d m : Int) : (rs_G a b c d m).natAbs = rs_g5 a b c d m := by
  unfold rs_G
  split
  · rw [Int.natAbs_neg]; rfl
  · rfl
theorem rs_gcd1 {a b c d m g : Nat} (hg : Nat.gcd (Nat.gcd (Nat.gcd (Nat.gcd a b) c) d) m = g) (h0 : 0 < g) :
    Nat.gcd (Nat.gcd (Nat.gcd (Nat.gcd (a / g) (b / g)) (c / g)) (d / g)) (m / g) = 1 := by
  have dm : g ∣ m := hg ▸ Nat.gcd_dvd_right _ _
  have d4 : g ∣ Nat.gcd (Nat.gcd (Nat.gcd a b) c) d := hg ▸ Nat.gcd_dvd_left _ _
  have dd : g ∣ d := Nat.dvd_trans d4 (Nat.gcd_dvd_right _ _)
  have d3 : g ∣ Nat.gcd (Nat.gcd a b) c := Nat.dvd_trans d4 (Nat.gcd_dvd_left _ _)
  have dc : g ∣ c := Nat.dvd_trans d3 (Nat.gcd_dvd_right _ _)
  have d2 : g ∣ Nat.gcd a b := Nat.dvd_trans d3 (Nat.gcd_dvd_left _ _)
  have db : g ∣ b := Nat.dvd_trans d2 (Nat.gcd_dvd_right _ _)
  have da : g ∣ a := Nat.dvd_trans d2 (Nat.gcd_dvd_left _ _)
  rw [Nat.gcd_div da db, Nat.gcd_div d2 dc, Nat.gcd_div d3 dd, Nat.gcd_div d4 dm, hg]
  exact Nat.div_self h0
theorem rs_mpos {m : Int} {g : Nat} {G : Int} (h0 : m ≠ 0) (hg : 0 < g) (hd : g ∣ m.natAbs) (hG : G = if m < 0 then -(g : Int) else (g : Int)) : 1 ≤ m.tdiv G := by
  have q : 1 ≤ m.natAbs / g := Nat.div_pos (Nat.le_of_dvd (by omega) hd) hg
  have e : m.tdiv G = ((m.natAbs / g : Nat) : Int) := by
    rw [Int.ofNat_tdiv]
    by_cases k : m < 0
    · rw [if_pos k] at hG
      rw [hG, Int.ofNat_natAbs_of_nonpos (by omega), Int.tdiv_neg, Int.neg_tdiv]
    · rw [if_neg k] at hG
      rw [hG, Int.natAbs_of_nonneg (by omega)]
  rw [e]
  omega
theorem rs_low {a b c d m G : Int} (h0 : m ≠ 0) (hG : rs_G a b c d m = G) (hf : rs_fit (a.tdiv G) (b.tdiv G) (c.tdiv G) (d.tdiv G) (m.tdiv G)) :
    rs_ok (a.tdiv G) (b.tdiv G) (c.tdiv G) (d.tdiv G) (m.tdiv G) := by
  have gp := rs_g5pos (a := a) (b := b) (c := c) (d := d) h0
  have gd : rs_g5 a b c d m ∣ m.natAbs := Nat.gcd_dvd_right _ _
  refine ⟨hf.1, hf.2.1, hf.2.2.1, hf.2.2.2.1, rs_mpos h0 gp gd hG.symm, hf.2.2.2.2.2, ?_⟩
  have e : G.natAbs = rs_g5 a b c d m := by rw [← hG]; exact rs_Gabs a b c d m
  have f : ∀ z : Int, (z.tdiv G).natAbs = z.natAbs / rs_g5 a b c d m := fun z => by rw [Int.natAbs_tdiv, e]; rfl
  show Nat.gcd (Nat.gcd (Nat.gcd (Nat.gcd (a.tdiv G).natAbs (b.tdiv G).natAbs) (c.tdiv G).natAbs) (d.tdiv G).natAbs) (m.tdiv G).natAbs = 1
  rw [f, f, f, f, f]
  exact rs_gcd1 rfl gp
theorem rs_up_ne {P : Nat → Int32} {r j : Nat} {a b c d m : Int} (h0 : j ≠ 5 * r) (h1 : j ≠ 5 * r + 1) (h2 : j ≠ 5 * r + 2) (h3 : j ≠ 5 * r + 3) (h4 : j ≠ 5 * r + 4) : rs_up5 P r a b c d m j = P j := by
  unfold rs_up5
  rw [pk_un h4, pk_un h3, pk_un h2, pk_un h1, pk_un h0]
theorem rs_u0 {P : Nat → Int32} {r : Nat} {a b c d m : Int} : rs_up5 P r a b c d m (5 * r) = rs_I a := by
  unfold rs_up5
  rw [pk_un (by omega), pk_un (by omega), pk_un (by omega), pk_un (by omega), pk_us]
theorem rs_u1 {P : Nat → Int32} {r : Nat} {a b c d m : Int} : rs_up5 P r a b c d m (5 * r + 1) = rs_I b := by
  unfold rs_up5
  rw [pk_un (by omega), pk_un (by omega), pk_un (by omega), pk_us]
theorem rs_u2 {P : Nat → Int32} {r : Nat} {a b c d m : Int} : rs_up5 P r a b c d m (5 * r + 2) = rs_I c := by
  unfold rs_up5
  rw [pk_un (by omega), pk_un (by omega), pk_us]
theorem rs_u3 {P : Nat → Int32} {r : Nat} {a b c d m : Int} : rs_up5 P r a b c d m (5 * r + 3) = rs_I d := by
  unfold rs_up5
  rw [pk_un (by omega), pk_us]
theorem rs_u4 {P : Nat → Int32} {r : Nat} {a b c d m : Int} : rs_up5 P r a b c d m (5 * r + 4) = rs_I m := by
  unfold rs_up5
  rw [pk_us]
theorem rs_bI {z : Int} (h : rs_bd z) : (rs_I z).toInt = z := rs_Iti (by have := h.1; omega) (by have := h.2; omega)
theorem rs_Inv_up {P : Nat → Int32} {r : Nat} {a b c d m : Int} (hI : rs_Inv P) (h : rs_ok a b c d m) : rs_Inv (rs_up5 P r a b c d m) := by
  intro s hs
  by_cases e : s = r
  · subst e
    rw [rs_u0, rs_u1, rs_u2, rs_u3, rs_u4, rs_bI h.1, rs_bI h.2.1, rs_bI h.2.2.1, rs_bI h.2.2.2.1, rs_bI ⟨by have := h.2.2.2.2.1; omega, h.2.2.2.2.2.1⟩]
    exact h
  · rw [rs_up_ne (by omega) (by omega) (by omega) (by omega) (by omega), rs_up_ne (by omega) (by omega) (by omega) (by omega) (by omega), rs_up_ne (by omega) (by omega) (by omega) (by omega) (by omega), rs_up_ne (by omega) (by omega) (by omega) (by omega) (by omega), rs_up_ne (by omega) (by omega) (by omega) (by omega) (by omega)]
    exact hI s hs
/-- X's store and Y's take: one outcome -/
theorem rs_ST {P : Nat → Int32} {a b c d m : Int} {r : Nat} (hr : r < 6) (hI : rs_Inv P) (ha : rs_s a) (hb : rs_s b) (hc : rs_s c) (hd : rs_s d) (hm : rs_s m) (h0 : m ≠ 0) :
    ∃ (w : Int32) (P' : Nat → Int32), rs_Inv P' ∧
      (∀ (post : Int32 → SX → Prop) (p q : Int64), (∀ x1 x2 x3 x4 x5 : Int64, post w (x1, x2, x3, x4, x5, p, q, P')) → wpX_store post (rs_L a, rs_L b, rs_L c, rs_L d, rs_L m, p, q, P) (nI r)) ∧
      (∀ (post : Int32 → SY → Prop) (M T C : Nat → Int64), rs_M5 M a b c d m → (∀ M', post w (P', M', T, C)) → wpY_take post (P, M, T, C) (nI r)) := by
  by_cases hf : rs_fit (a.tdiv (rs_G a b c d m)) (b.tdiv (rs_G a b c d m)) (c.tdiv (rs_G a b c d m)) (d.tdiv (rs_G a b c d m)) (m.tdiv (rs_G a b c d m))
  · exact ⟨0, _, rs_Inv_up hI (rs_low h0 rfl hf), fun post p q h => rs_Xstore1 hr ha hb hc hd hm h0 _ rfl hf h, fun post M T C hM h => rs_Ytake1 hr ha hb hc hd hm h0 hM _ rfl hf h⟩
  · exact ⟨-2000000, P, hI, fun post p q h => rs_Xstore2 ha hb hc hd hm h0 _ rfl hf h, fun post M T C hM h => rs_Ytake2 ha hb hc hd hm h0 hM _ rfl hf h⟩
end
section
/-! roots of 2, 3, 6 are irrational; the norm is not 0 -/
theorem rs_n2 (a : Nat) : ∀ b, a * a = 2 * (b * b) → a = 0 := by
  induction a using Nat.strongRecOn with
  | ind a ih =>
    intro b h
    by_cases h0 : a = 0
    · exact h0
    · have hb : b < a := by
        apply Nat.lt_of_not_le
        intro k
        have k2 := Nat.mul_self_le_mul_self k
        have k3 : 0 < a * a := Nat.mul_pos (Nat.pos_of_ne_zero h0) (Nat.pos_of_ne_zero h0)
        omega
      have ha : a % 2 = 0 := by
        have e : (a * a) % 2 = 0 := by omega
        rw [Nat.mul_mod] at e
        rcases Nat.mod_two_eq_zero_or_one a with k | k
        · exact k
        · rw [k] at e; exact absurd e (by decide)
      obtain ⟨c, rfl⟩ : ∃ c, a = 2 * c := ⟨a / 2, by omega⟩
      have e : 2 * c * (2 * c) = 4 * (c * c) := by grind
      have b0 := ih b hb c (by omega)
      subst b0
      have : c * c = 0 := by omega
      rcases Nat.mul_eq_zero.mp this with k | k <;> omega
theorem rs_n3 (a : Nat) : ∀ b, a * a = 3 * (b * b) → a = 0 := by
  induction a using Nat.strongRecOn with
  | ind a ih =>
    intro b h
    by_cases h0 : a = 0
    · exact h0
    · have hb : b < a := by
        apply Nat.lt_of_not_le
        intro k
        have k2 := Nat.mul_self_le_mul_self k
        have k3 : 0 < a * a := Nat.mul_pos (Nat.pos_of_ne_zero h0) (Nat.pos_of_ne_zero h0)
        omega
      have ha : a % 3 = 0 := by
        have e : (a * a) % 3 = 0 := by omega
        rw [Nat.mul_mod] at e
        have k : a % 3 = 0 ∨ a % 3 = 1 ∨ a % 3 = 2 := by omega
        rcases k with k | k | k
        · exact k
        · rw [k] at e; exact absurd e (by decide)
        · rw [k] at e; exact absurd e (by decide)
      obtain ⟨c, rfl⟩ : ∃ c, a = 3 * c := ⟨a / 3, by omega⟩
      have e : 3 * c * (3 * c) = 9 * (c * c) := by grind
      have b0 := ih b hb c (by omega)
      subst b0
      have : c * c = 0 := by omega
      rcases Nat.mul_eq_zero.mp this with k | k <;> omega
theorem rs_ev {a : Nat} (e : (a * a) % 2 = 0) : a % 2 = 0 := by
  rw [Nat.mul_mod] at e
  rcases Nat.mod_two_eq_zero_or_one a with k | k
  · exact k
  · rw [k] at e; exact absurd e (by decide)
theorem rs_n6 (a : Nat) : ∀ b, a * a = 6 * (b * b) → a = 0 := by
  induction a using Nat.strongRecOn with
  | ind a ih =>
    intro b h
    by_cases h0 : a = 0
    · exact h0
    · have ha : a % 2 = 0 := rs_ev (by omega)
      obtain ⟨c, rfl⟩ : ∃ c, a = 2 * c := ⟨a / 2, by omega⟩
      have e : 2 * c * (2 * c) = 4 * (c * c) := by grind
      have hb : b % 2 = 0 := rs_ev (by omega)
      obtain ⟨d, rfl⟩ : ∃ d, b = 2 * d := ⟨b / 2, by omega⟩
      have e2 : 2 * d * (2 * d) = 4 * (d * d) := by grind
      have c0 := ih c (by omega) d (by omega)
      omega
theorem rs_sq {e : Int} : ∃ n : Nat, (n : Int) = e * e ∧ n = e.natAbs * e.natAbs := ⟨_, Int.natAbs_mul_self, rfl⟩
theorem rs_sq0 {e : Int} (h : e * e = 0) : e = 0 := by
  rcases Int.mul_eq_zero.mp h with k | k <;> exact k
theorem rs_ik {e f : Int} (k : Nat) (hk : 0 < k) (H : ∀ a b : Nat, a * a = k * (b * b) → a = 0) (h : e * e = (k : Int) * (f * f)) : e = 0 ∧ f = 0 := by
  obtain ⟨x, hx, ex⟩ := rs_sq (e := e)
  obtain ⟨y, hy, ey⟩ := rs_sq (e := f)
  have : x = k * y := by
    rw [← hx, ← hy, ← Int.natCast_mul] at h
    exact Int.ofNat_inj.mp h
  rw [ex, ey] at this
  have e0 := H _ _ this
  have e1 : e = 0 := by omega
  subst e1
  have f1 : (k : Int) * (f * f) = 0 := by rw [← h]; rfl
  refine ⟨rfl, rs_sq0 ?_⟩
  rcases Int.mul_eq_zero.mp f1 with z | z
  · omega
  · exact z
theorem rs_i2 {e f : Int} (h : e * e = 2 * (f * f)) : e = 0 ∧ f = 0 := rs_ik 2 (by decide) rs_n2 h
theorem rs_i3 {e f : Int} (h : e * e = 3 * (f * f)) : e = 0 ∧ f = 0 := rs_ik 3 (by decide) rs_n3 h
theorem rs_i6 {e f : Int} (h : e * e = 6 * (f * f)) : e = 0 ∧ f = 0 := rs_ik 6 (by decide) rs_n6 h
theorem rs_irr4 {e f g h : Int} (hp : e * e + 2 * (f * f) - 3 * (g * g) - 6 * (h * h) = 0) (hq : 2 * (e * f) - 6 * (g * h) = 0) : e = 0 ∧ f = 0 ∧ g = 0 ∧ h = 0 := by
  have id : ((e * e - 2 * (f * f)) - 3 * (g * g - 2 * (h * h))) * ((e * e - 2 * (f * f)) + 3 * (g * g - 2 * (h * h))) = (e * e + 2 * (f * f) - 3 * (g * g) - 6 * (h * h)) * (e * e + 2 * (f * f) + 3 * (g * g) + 6 * (h * h)) - 2 * ((2 * (e * f) - 6 * (g * h)) * (2 * (e * f) + 6 * (g * h))) := by grind
  rw [hp, hq, Int.zero_mul, Int.zero_mul] at id
  rcases Int.mul_eq_zero.mp (id.trans (by decide)) with k | k
  · have e1 : e * e = 3 * (g * g) := by omega
    have f1 : f * f = 3 * (h * h) := by omega
    exact ⟨(rs_i3 e1).1, (rs_i3 f1).1, (rs_i3 e1).2, (rs_i3 f1).2⟩
  · have e1 : e * e = 6 * (h * h) := by omega
    have f0 : 2 * f * (2 * f) = 4 * (f * f) := by grind
    have f1 : 2 * f * (2 * f) = 6 * (g * g) := by omega
    have f2 := (rs_i6 f1).1
    exact ⟨(rs_i6 e1).1, by omega, (rs_i6 f1).2, (rs_i6 e1).2⟩
/-- p and q of squares -/
def rs_p (e f g h : Int) : Int := e * e + 2 * (f * f) - 3 * (g * g) - 6 * (h * h)
def rs_q (e f g h : Int) : Int := 2 * (e * f) - 6 * (g * h)
/-- the norm -/
def rs_nm (e f g h : Int) : Int := rs_p e f g h * rs_p e f g h - 2 * (rs_q e f g h * rs_q e f g h)
theorem rs_nm0 {e f g h : Int} (n : rs_nm e f g h = 0) : e = 0 ∧ f = 0 ∧ g = 0 ∧ h = 0 := by
  have k := rs_i2 (e := rs_p e f g h) (f := rs_q e f g h) (by unfold rs_nm at n; omega)
  exact rs_irr4 k.1 k.2
end
section
/-! the sign law: X's exact sign is the sign of the linear form -/
def rs_sg (z : Int) : Int32 := if z = 0 then 0 else if 0 ≤ z then 1 else -1
theorem rs_sg0 {z : Int} (h : z = 0) : rs_sg z = 0 := if_pos h
theorem rs_sgp {z : Int} (h : 0 < z) : rs_sg z = 1 := (if_neg (by omega)).trans (if_pos (by omega))
theorem rs_sgn {z : Int} (h : z < 0) : rs_sg z = -1 := (if_neg (by omega)).trans (if_neg (by omega))
theorem rs_tri (z : Int) : z = 0 ∨ 0 < z ∨ z < 0 := by omega
def rs_s2 (e f : Int) : Int32 := if rs_sg e = 0 then rs_sg f else if rs_sg f = 0 then rs_sg e else if rs_sg e = rs_sg f then rs_sg e else if e * e ≤ 2 * f * f then rs_sg f else rs_sg e
theorem rs_pp {x y : Int} (hy : 0 < y) (h : 0 < x * y) : 0 < x := by
  apply Int.lt_of_not_ge
  intro k
  have := Int.mul_le_mul_of_nonneg_right k (Int.le_of_lt hy)
  rw [Int.zero_mul] at this
  omega
theorem rs_pn {x y : Int} (hy : 0 < y) (h : x * y < 0) : x < 0 := by
  apply Int.lt_of_not_ge
  intro k
  have := Int.mul_nonneg k (Int.le_of_lt hy)
  omega
theorem rs_np {x y : Int} (hy : y < 0) (h : 0 < x * y) : x < 0 := by
  have := rs_pn (x := x) (y := -y) (by omega) (by rw [Int.mul_neg]; omega)
  exact this
theorem rs_nn {x y : Int} (hy : y < 0) (h : x * y < 0) : 0 < x := by
  have := rs_pp (x := x) (y := -y) (by omega) (by rw [Int.mul_neg]; omega)
  exact this
theorem rs_Kp {Q N s : Int} (hQ : 0 < Q) (hN : 1 ≤ N) (hs : -Q < s) : 0 < Q * N + s := by
  have := Int.mul_le_mul_of_nonneg_left hN (Int.le_of_lt hQ)
  rw [Int.mul_one] at this
  omega
theorem rs_Kn {Q N s : Int} (hQ : 0 < Q) (hN : N ≤ -1) (hs : s < Q) : Q * N + s < 0 := by
  have := Int.mul_le_mul_of_nonneg_left hN (Int.le_of_lt hQ)
  have e : Q * -1 = -Q := by rw [Int.mul_neg, Int.mul_one]
  omega
theorem rs_id2 {al be de e f : Int} (hd : be * be = 2 * (al * al) - de) : (e * al + f * be) * (e * al - f * be) = al * al * (e * e - 2 * (f * f)) + f * f * de := by
  have h1 : (e * al + f * be) * (e * al - f * be) = e * e * (al * al) - f * f * (be * be) := by grind
  rw [h1, hd]
  grind
theorem rs_T2 {al be de e f : Int} (ha : 0 < al) (hb : 0 < be) (hd : be * be = 2 * (al * al) - de) (h1 : -(al * al) < f * f * de) (h2 : f * f * de < al * al) :
    rs_s2 e f = rs_sg (e * al + f * be) := by
  have id := rs_id2 (e := e) (f := f) hd
  have Q : 0 < al * al := Int.mul_pos ha ha
  have a2 : 2 * f * f = 2 * (f * f) := Int.mul_assoc 2 f f
  unfold rs_s2
  rcases rs_tri e with he | he | he
  · subst he
    rw [rs_sg0 rfl, if_pos rfl, Int.zero_mul, Int.zero_add]
    rcases rs_tri f with hf | hf | hf
    · subst hf
      rw [Int.zero_mul]
    · rw [rs_sgp hf, rs_sgp (Int.mul_pos hf hb)]
    · rw [rs_sgn hf, rs_sgn (Int.mul_neg_of_neg_of_pos hf hb)]
  · have p1 := Int.mul_pos he ha
    rcases rs_tri f with hf | hf | hf
    · subst hf
      rw [rs_sgp he, rs_sg0 rfl, if_neg rs_01, if_pos rfl, Int.zero_mul, Int.add_zero, rs_sgp p1]
    · have p2 := Int.mul_pos hf hb
      rw [rs_sgp he, rs_sgp hf, if_neg rs_01, if_neg rs_01, if_pos rfl, rs_sgp (by omega)]
    · have p2 := Int.mul_neg_of_neg_of_pos hf hb
      have p3 : 0 < e * al - f * be := by omega
      have ne : e * e ≠ 2 * (f * f) := fun k => by have := (rs_i2 k).1; omega
      rw [rs_sgp he, rs_sgn hf, if_neg rs_01, if_neg (by decide), if_neg (by decide), a2]
      by_cases k : e * e ≤ 2 * (f * f)
      · rw [if_pos k, rs_sgn (rs_pn p3 (by rw [id]; exact rs_Kn Q (by omega) h2))]
      · rw [if_neg k, rs_sgp (rs_pp p3 (by rw [id]; exact rs_Kp Q (by omega) h1))]
  · have p1 := Int.mul_neg_of_neg_of_pos he ha
    rcases rs_tri f with hf | hf | hf
    · subst hf
      rw [rs_sgn he, rs_sg0 rfl, if_neg (by decide), if_pos rfl, Int.zero_mul, Int.add_zero, rs_sgn p1]
    · have p2 := Int.mul_pos hf hb
      have p3 : e * al - f * be < 0 := by omega
      have ne : e * e ≠ 2 * (f * f) := fun k => by have := (rs_i2 k).1; omega
      rw [rs_sgn he, rs_sgp hf, if_neg (by decide), if_neg rs_01, if_neg (by decide), a2]
      by_cases k : e * e ≤ 2 * (f * f)
      · rw [if_pos k, rs_sgp (rs_nn p3 (by rw [id]; exact rs_Kn Q (by omega) h2))]
      · rw [if_neg k, rs_sgn (rs_np p3 (by rw [id]; exact rs_Kp Q (by omega) h1))]
    · have p2 := Int.mul_neg_of_neg_of_pos hf hb
      rw [rs_sgn he, rs_sgn hf, if_neg (by decide), if_neg (by decide), if_pos rfl, rs_sgn (by omega)]
/-- bounds of products -/
theorem rs_mb {x y a b : Int} (h1 : -a ≤ x) (h2 : x ≤ a) (h3 : -b ≤ y) (h4 : y ≤ b) : -(a * b) ≤ x * y ∧ x * y ≤ a * b := by
  have k1 : 0 ≤ (a - x) * (b + y) := Int.mul_nonneg (by omega) (by omega)
  have k2 : 0 ≤ (a + x) * (b - y) := Int.mul_nonneg (by omega) (by omega)
  have k3 : 0 ≤ (a - x) * (b - y) := Int.mul_nonneg (by omega) (by omega)
  have k4 : 0 ≤ (a + x) * (b + y) := Int.mul_nonneg (by omega) (by omega)
  rw [Int.sub_mul, Int.mul_add, Int.mul_add] at k1
  rw [Int.add_mul, Int.mul_sub, Int.mul_sub] at k2
  rw [Int.sub_mul, Int.mul_sub, Int.mul_sub] at k3
  rw [Int.add_mul, Int.mul_add, Int.mul_add] at k4
  constructor <;> omega
theorem rs_sqb {x a : Int} (h1 : -a ≤ x) (h2 : x ≤ a) : 0 ≤ x * x ∧ x * x ≤ a * a := by
  refine ⟨?_, (rs_mb h1 h2 h1 h2).2⟩
  rcases Int.le_total 0 x with k | k
  · exact Int.mul_nonneg k k
  · have := Int.mul_nonneg (a := -x) (b := -x) (by omega) (by omega)
    rw [Int.neg_mul_neg] at this
    exact this
abbrev rs_cA : Int := 1000000000000000000
abbrev rs_cB : Int := 1414213562373095048
abbrev rs_cC : Int := 1732050807568877293
abbrev rs_cD : Int := 2449489742783178098
/-- the linear form -/
def rs_V (e f g h : Int) : Int := e * 1000000000000000000 + f * 1414213562373095048 + g * 1732050807568877293 + h * 2449489742783178098
/-- bounded coefficients -/
def rs_bb (e f g h : Int) : Prop := (-34000 ≤ e ∧ e ≤ 34000) ∧ (-2000 ≤ f ∧ f ≤ 2000) ∧ (-2000 ≤ g ∧ g ≤ 2000) ∧ (-2000 ≤ h ∧ h ≤ 2000)
/-- X's signFour -/
def rs_s4 (e f g h : Int) : Int32 := if rs_s2 e f = 0 then rs_s2 g h else if rs_s2 g h = 0 then rs_s2 e f else if rs_s2 e f = rs_s2 g h then rs_s2 e f else if rs_s2 (rs_p e f g h) (rs_q e f g h) ≤ 0 then rs_s2 g h else rs_s2 e f
theorem rs_id4 {A B C D dB dC dD ka e f g h : Int} (hB : B * B = 2 * (A * A) - dB) (hC : C * C = 3 * (A * A) - dC) (hD : D * D = 6 * (A * A) - dD) (hK : C * D = 3 * (A * B) + ka) :
    ((e * A + f * B) + (g * C + h * D)) * ((e * A + f * B) - (g * C + h * D)) = A * (rs_p e f g h * A + rs_q e f g h * B) + (g * g * dC + h * h * dD - f * f * dB - 2 * (g * h * ka)) := by
  have h1 : ((e * A + f * B) + (g * C + h * D)) * ((e * A + f * B) - (g * C + h * D)) = e * e * (A * A) + 2 * (e * f) * (A * B) + f * f * (B * B) - g * g * (C * C) - 2 * (g * h) * (C * D) - h * h * (D * D) := by grind
  rw [h1, hB, hC, hD, hK]
  unfold rs_p rs_q
  grind
theorem rs_pqb {e f g h : Int} (H : rs_bb e f g h) : (-1164000000 ≤ rs_p e f g h ∧ rs_p e f g h ≤ 1164000000) ∧ (-160000000 ≤ rs_q e f g h ∧ rs_q e f g h ≤ 160000000) := by
  obtain ⟨⟨a1, a2⟩, ⟨b1, b2⟩, ⟨c1, c2⟩, ⟨d1, d2⟩⟩ := H
  have e1 := rs_sqb a1 a2
  have e2 := rs_sqb b1 b2
  have e3 := rs_sqb c1 c2
  have e4 := rs_sqb d1 d2
  have e5 := rs_mb a1 a2 b1 b2
  have e6 := rs_mb c1 c2 d1 d2
  unfold rs_p rs_q
  omega
/-- the value p A + q B is not near 0 -/
theorem rs_far {p q W Z N dB : Int} (id : W * Z = 1000000000000000000 * 1000000000000000000 * N + q * q * dB) (hN : N ≠ 0) (hd : dB = 2267518133157877696) (hp : -1164000000 ≤ p ∧ p ≤ 1164000000) (hq : -160000000 ≤ q ∧ q ≤ 160000000) (hZ : Z = p * 1000000000000000000 - q * 1414213562373095048) :
    W < -300000000 ∨ 300000000 < W := by
  apply Classical.byContradiction
  intro k
  have k1 : -300000000 ≤ W := by omega
  have k2 : W ≤ 300000000 := by omega
  have z1 : -1400000000000000000000000000 ≤ Z := by omega
  have z2 : Z ≤ 1400000000000000000000000000 := by omega
  have m := rs_mb k1 k2 z1 z2
  have s := rs_sqb hq.1 hq.2
  subst hd
  generalize W * Z = wz at id m
  generalize q * q = qq at id s
  omega
theorem rs_err {f g h : Int} (hf : -2000 ≤ f ∧ f ≤ 2000) (hg : -2000 ≤ g ∧ g ≤ 2000) (hh : -2000 ≤ h ∧ h ≤ 2000) :
    -300000000000000000000000000 < g * g * 1827127723508992151 + h * h * 966490634813102396 - f * f * 2267518133157877696 - 2 * (g * h * 771385728327128714) ∧
    g * g * 1827127723508992151 + h * h * 966490634813102396 - f * f * 2267518133157877696 - 2 * (g * h * 771385728327128714) < 300000000000000000000000000 := by
  have e2 := rs_sqb hf.1 hf.2
  have e3 := rs_sqb hg.1 hg.2
  have e4 := rs_sqb hh.1 hh.2
  have e6 := rs_mb hg.1 hg.2 hh.1 hh.2
  generalize f * f = ff at *
  generalize g * g = gg at *
  generalize h * h = hh' at *
  generalize g * h = gh at *
  omega
theorem rs_law {e f g h : Int} (H : rs_bb e f g h) : rs_s4 e f g h = rs_sg (rs_V e f g h) := by
  have PQ := rs_pqb H
  obtain ⟨H1, H2, H3, H4⟩ := H
  have qf := rs_sqb H2.1 H2.2
  have qh := rs_sqb H4.1 H4.2
  have qq := rs_sqb PQ.2.1 PQ.2.2
  have hs : rs_s2 e f = rs_sg (e * 1000000000000000000 + f * 1414213562373095048) :=
    rs_T2 (de := 2267518133157877696) (by decide) (by decide) (by decide) (by omega) (by omega)
  have ht : rs_s2 g h = rs_sg (g * 1732050807568877293 + h * 2449489742783178098) :=
    rs_T2 (de := -2687764812204881906) (by decide) (by decide) (by decide) (by omega) (by omega)
  have hr : rs_s2 (rs_p e f g h) (rs_q e f g h) = rs_sg (rs_p e f g h * 1000000000000000000 + rs_q e f g h * 1414213562373095048) :=
    rs_T2 (de := 2267518133157877696) (by decide) (by decide) (by decide) (by omega) (by omega)
  have i4 := rs_id4 (A := 1000000000000000000) (B := 1414213562373095048) (C := 1732050807568877293) (D := 2449489742783178098) (dB := 2267518133157877696) (dC := 1827127723508992151) (dD := 966490634813102396) (ka := 771385728327128714) (e := e) (f := f) (g := g) (h := h) (by decide) (by decide) (by decide) (by decide)
  have er := rs_err H2 H3 H4
  have far : (e * 1000000000000000000 + f * 1414213562373095048 ≠ 0) → rs_p e f g h * 1000000000000000000 + rs_q e f g h * 1414213562373095048 < -300000000 ∨ 300000000 < rs_p e f g h * 1000000000000000000 + rs_q e f g h * 1414213562373095048 := fun ne =>
    rs_far (rs_id2 (al := 1000000000000000000) (be := 1414213562373095048) (de := 2267518133157877696) (by decide)) (fun n => by
      have z := rs_nm0 (e := e) (f := f) (g := g) (h := h) n
      omega) rfl PQ.1 PQ.2 rfl
  have hV : rs_V e f g h = (e * 1000000000000000000 + f * 1414213562373095048) + (g * 1732050807568877293 + h * 2449489742783178098) := by
    unfold rs_V; omega
  unfold rs_s4
  rw [hs, ht, hr, hV]
  generalize e * 1000000000000000000 + f * 1414213562373095048 = X1 at *
  generalize g * 1732050807568877293 + h * 2449489742783178098 = X2 at *
  generalize rs_p e f g h * 1000000000000000000 + rs_q e f g h * 1414213562373095048 = W at *
  generalize g * g * 1827127723508992151 + h * h * 966490634813102396 - f * f * 2267518133157877696 - 2 * (g * h * 771385728327128714) = E at *
  clear hs ht hr hV qf qh qq H1 H2 H3 H4 PQ
  rcases rs_tri X1 with x | x | x
  · rw [rs_sg0 x, if_pos rfl, x, Int.zero_add]
  · rcases rs_tri X2 with y | y | y
    · rw [rs_sgp x, rs_sg0 y, if_neg rs_01, if_pos rfl, y, Int.add_zero, rs_sgp x]
    · rw [rs_sgp x, rs_sgp y, if_neg rs_01, if_neg rs_01, if_pos rfl, rs_sgp (by omega)]
    · have d : 0 < X1 - X2 := by omega
      rw [rs_sgp x, rs_sgn y, if_neg rs_01, if_neg (by decide), if_neg (by decide)]
      rcases far (by omega) with w | w
      · rw [rs_sgn (z := W) (by omega), if_pos (by decide), rs_sgn (rs_pn d (by rw [i4]; omega))]
      · rw [rs_sgp (z := W) (by omega), if_neg (by decide), rs_sgp (rs_pp d (by rw [i4]; omega))]
  · rcases rs_tri X2 with y | y | y
    · rw [rs_sgn x, rs_sg0 y, if_neg (by decide), if_pos rfl, y, Int.add_zero, rs_sgn x]
    · have d : X1 - X2 < 0 := by omega
      rw [rs_sgn x, rs_sgp y, if_neg (by decide), if_neg rs_01, if_neg (by decide)]
      rcases far (by omega) with w | w
      · rw [rs_sgn (z := W) (by omega), if_pos (by decide), rs_sgp (rs_nn d (by rw [i4]; omega))]
      · rw [rs_sgp (z := W) (by omega), if_neg (by decide), rs_sgn (rs_np d (by rw [i4]; omega))]
    · rw [rs_sgn x, rs_sgn y, if_neg (by decide), if_neg (by decide), if_pos rfl, rs_sgn (by omega)]
/-- the form is 0 at 0 alone -/
theorem rs_s20 {e f : Int} (h : rs_s2 e f = 0) : e = 0 ∧ f = 0 := by
  have n1 : ¬ (-1 : Int32) = 0 := by decide
  have n2 : ¬ (1 : Int32) = -1 := by decide
  have n3 : ¬ (-1 : Int32) = 1 := by decide
  unfold rs_s2 at h
  rcases rs_tri e with he | he | he <;> rcases rs_tri f with hf | hf | hf
  · exact ⟨he, hf⟩
  · rw [rs_sg0 he, rs_sgp hf, if_pos rfl] at h; exact absurd h rs_01
  · rw [rs_sg0 he, rs_sgn hf, if_pos rfl] at h; exact absurd h n1
  · rw [rs_sgp he, rs_sg0 hf, if_neg rs_01, if_pos rfl] at h; exact absurd h rs_01
  · rw [rs_sgp he, rs_sgp hf, if_neg rs_01, if_neg rs_01, if_pos rfl] at h; exact absurd h rs_01
  · rw [rs_sgp he, rs_sgn hf, if_neg rs_01, if_neg n1, if_neg n2] at h
    split at h
    · exact absurd h n1
    · exact absurd h rs_01
  · rw [rs_sgn he, rs_sg0 hf, if_neg n1, if_pos rfl] at h; exact absurd h n1
  · rw [rs_sgn he, rs_sgp hf, if_neg n1, if_neg rs_01, if_neg n3] at h
    split at h
    · exact absurd h rs_01
    · exact absurd h n1
  · rw [rs_sgn he, rs_sgn hf, if_neg n1, if_neg n1, if_pos rfl] at h; exact absurd h n1
theorem rs_V0 {e f g h : Int} (H : rs_bb e f g h) (z : rs_V e f g h = 0) : e = 0 ∧ f = 0 ∧ g = 0 ∧ h = 0 := by
  have k := rs_law H
  rw [rs_sg0 z] at k
  unfold rs_s4 at k
  by_cases a : rs_s2 e f = 0
  · rw [if_pos a] at k
    exact ⟨(rs_s20 a).1, (rs_s20 a).2, (rs_s20 k).1, (rs_s20 k).2⟩
  · rw [if_neg a] at k
    by_cases b : rs_s2 g h = 0
    · rw [if_pos b] at k; exact absurd k a
    · rw [if_neg b] at k
      split at k
      · exact absurd k a
      · split at k
        · exact absurd k b
        · exact absurd k a
end
section
/-! the walks of the signs -/
theorem rs_Xs1 {post : Int32 → Prop} {u : SX} {z : Int} (hz : rs_r z) (h : post (rs_sg z)) : wpX_signOf post u (rs_L z) := by
  obtain ⟨a, b, c, d, m, p, q, P⟩ := u
  refine br_c (fun k => ?_) (fun k => br_c (fun j => ?_) (fun j => ?_))
  · rw [rs_sg0 ((rs_eq0 hz).mp k)] at h; exact h
  · have k' : z ≠ 0 := fun e => k ((rs_eq0 hz).mpr e)
    have j' := (rs_0le hz).mp j
    rw [rs_sgp (by omega)] at h; exact h
  · have j' : ¬ 0 ≤ z := fun e => j ((rs_0le hz).mpr e)
    rw [rs_sgn (by omega)] at h; exact h
theorem rs_Xs2 {post : Int32 → Prop} {u : SX} {e f : Int} (he : rs_r e) (hf : rs_r f) (he2 : rs_r (e * e)) (hf2 : rs_r (2 * f * f)) (h : post (rs_s2 e f)) : wpX_signTwo post u (rs_L e) (rs_L f) := by
  obtain ⟨a, b, c, d, m, p, q, P⟩ := u
  unfold wpX_signTwo
  dsimp only
  refine rs_Xs1 he (rs_Xs1 hf ?_)
  unfold rs_s2 at h
  refine br_c (fun k => br_t k ?_) (fun k => br_c (fun k2 => br_f k ?_) (fun k2 => br_c (fun k3 => br_f k ?_) (fun k3 => ?_)))
  · rw [if_pos k] at h; exact h
  · rw [if_neg k, if_pos k2] at h; exact h
  · rw [if_neg k, if_neg k2, if_pos k3] at h; exact h
  · rw [if_neg k, if_neg k2, if_neg k3] at h
    rw [rs_l2, rs_mul, rs_mul, rs_mul, rs_le he2 hf2]
    refine br_c (fun k4 => ?_) (fun k4 => ?_)
    · rw [if_pos k4] at h; exact h
    · rw [if_neg k4] at h; exact h
theorem rs_Lp (e f g h : Int) : rs_L e * rs_L e + 2 * rs_L f * rs_L f - 3 * rs_L g * rs_L g - 6 * rs_L h * rs_L h = rs_L (rs_p e f g h) := by
  simp only [rs_l2, rs_l3, rs_l6, rs_mul, rs_add, rs_sub, rs_p, Int.mul_assoc]
theorem rs_Lq (e f g h : Int) : 2 * rs_L e * rs_L f - 6 * rs_L g * rs_L h = rs_L (rs_q e f g h) := by
  simp only [rs_l2, rs_l3, rs_l6, rs_mul, rs_add, rs_sub, rs_q, Int.mul_assoc]
theorem rs_Xsq {post : SX → Prop} {a b c d m p q : Int64} {P : Nat → Int32} {e f g h : Int} (H : post (a, b, c, d, m, rs_L (rs_p e f g h), rs_L (rs_q e f g h), P)) :
    wpX_squares post (a, b, c, d, m, p, q, P) (rs_L e) (rs_L f) (rs_L g) (rs_L h) :=
  nm_r (rs_Lp e f g h) (nm_r (rs_Lq e f g h) H)
theorem rs_rr {z : Int} (h1 : -4000000000000000000 ≤ z) (h2 : z ≤ 4000000000000000000) : rs_r z := ⟨by omega, by omega⟩
theorem rs_Xs4 {post : Int32 → SX → Prop} {a b c d m p q : Int64} {P : Nat → Int32} {e f g h : Int} (H : rs_bb e f g h) (hp : ∀ p' q' : Int64, post (rs_sg (rs_V e f g h)) (a, b, c, d, m, p', q', P)) :
    wpX_signFour post (a, b, c, d, m, p, q, P) (rs_L e) (rs_L f) (rs_L g) (rs_L h) := by
  rw [← rs_law H] at hp
  have PQ := rs_pqb H
  obtain ⟨H1, H2, H3, H4⟩ := H
  have qe := rs_sqb H1.1 H1.2
  have qf := rs_sqb H2.1 H2.2
  have qg := rs_sqb H3.1 H3.2
  have qh := rs_sqb H4.1 H4.2
  have qp := rs_sqb PQ.1.1 PQ.1.2
  have qq := rs_sqb PQ.2.1 PQ.2.2
  have a1 (x : Int) : 2 * x * x = 2 * (x * x) := Int.mul_assoc 2 x x
  unfold wpX_signFour
  dsimp only
  refine rs_Xs2 (rs_rr (by omega) (by omega)) (rs_rr (by omega) (by omega)) (rs_rr (by omega) (by omega)) (by rw [a1]; exact rs_rr (by omega) (by omega)) ?_
  refine rs_Xs2 (rs_rr (by omega) (by omega)) (rs_rr (by omega) (by omega)) (rs_rr (by omega) (by omega)) (by rw [a1]; exact rs_rr (by omega) (by omega)) ?_
  unfold rs_s4 at hp
  refine br_c (fun k => br_t k ?_) (fun k => br_c (fun k2 => br_f k ?_) (fun k2 => br_c (fun k3 => br_f k ?_) (fun k3 => ?_)))
  · rw [if_pos k] at hp; exact hp _ _
  · rw [if_neg k, if_pos k2] at hp; exact hp _ _
  · rw [if_neg k, if_neg k2, if_pos k3] at hp; exact hp _ _
  · rw [if_neg k, if_neg k2, if_neg k3] at hp
    refine rs_Xsq ?_
    refine rs_Xs2 (rs_rr (by omega) (by omega)) (rs_rr (by omega) (by omega)) (rs_rr (by omega) (by omega)) (by rw [a1]; exact rs_rr (by omega) (by omega)) ?_
    refine br_c (fun k4 => ?_) (fun k4 => ?_)
    · rw [if_pos k4] at hp; exact hp _ _
    · rw [if_neg k4] at hp; exact hp _ _
/-- Java's remainder by a thousand million -/
theorem rs_td (x : Int) : -1000000000 < x - x.tdiv 1000000000 * 1000000000 ∧ x - x.tdiv 1000000000 * 1000000000 < 1000000000 := by
  rcases Int.le_total 0 x with k | k
  · rw [Int.tdiv_eq_ediv_of_nonneg k]
    omega
  · have e : x.tdiv 1000000000 = -((-x) / 1000000000) := by
      rw [← Int.tdiv_eq_ediv_of_nonneg (by omega), Int.neg_tdiv, Int.neg_neg]
    rw [e]
    omega
theorem rs_lK : (1000000000 : Int64) = rs_L 1000000000 := by decide
theorem rs_eq1 {z : Int} (h : rs_r z) : rs_L z = 1 ↔ z = 1 := by rw [rs_l1]; exact rs_eq h ⟨by omega, by omega⟩
theorem rs_Y95 {post : Int32 → Prop} {P : Nat → Int32} {M T C : Nat → Int64} {x l : Int} (hx : rs_r x) (hl1 : -1000000000 < l) (hl2 : l < 1000000000) (nz : x * 1000000000 + l ≠ 0) (h : post (rs_sg (x * 1000000000 + l))) :
    wY_signOf_95 post (rs_L x) (rs_L l) P M T C := by
  have rl : rs_r l := rs_rr (by omega) (by omega)
  refine br_c (fun k => ?_) (fun k => br_c (fun k2 => br_c (fun k3 => ?_) (fun k3 => br_f ?_ ?_)) (fun k2 => br_f ?_ ?_))
  · have k' := (rs_0lt hx).mp k
    rw [rs_sgp (by omega)] at h; exact h
  · have k2' := (rs_eq0 hx).mp k2
    have k3' := (rs_0lt rl).mp k3
    rw [rs_sgp (by omega)] at h; exact h
  · have k2' := (rs_eq0 hx).mp k2
    intro j
    have j' := (rs_eq1 hx).mp j
    omega
  · have k2' := (rs_eq0 hx).mp k2
    have k3' : ¬ 0 < l := fun z => k3 ((rs_0lt rl).mpr z)
    rw [rs_sgn (by omega)] at h; exact h
  · have k' : ¬ 0 < x := fun z => k ((rs_0lt hx).mpr z)
    intro j
    have j' := (rs_eq1 hx).mp j
    omega
  · have k' : ¬ 0 < x := fun z => k ((rs_0lt hx).mpr z)
    have k2' : ¬ x = 0 := fun z => k2 ((rs_eq0 hx).mpr z)
    rw [rs_sgn (by omega)] at h; exact h
theorem rs_hi (e f g h : Int) : rs_L e * 1000000000 + rs_L f * 1414213562 + rs_L g * 1732050807 + rs_L h * 2449489742 = rs_L (e * 1000000000 + f * 1414213562 + g * 1732050807 + h * 2449489742) := by
  rw [show (1000000000 : Int64) = rs_L 1000000000 by decide, show (1414213562 : Int64) = rs_L 1414213562 by decide, show (1732050807 : Int64) = rs_L 1732050807 by decide, show (2449489742 : Int64) = rs_L 2449489742 by decide]
  simp only [rs_mul, rs_add]
theorem rs_lo (f g h : Int) : rs_L f * 373095048 + rs_L g * 568877293 + rs_L h * 783178098 = rs_L (f * 373095048 + g * 568877293 + h * 783178098) := by
  rw [show (373095048 : Int64) = rs_L 373095048 by decide, show (568877293 : Int64) = rs_L 568877293 by decide, show (783178098 : Int64) = rs_L 783178098 by decide]
  simp only [rs_mul, rs_add]
theorem rs_tdb (x : Int) (h1 : -10000000000000000 ≤ x) (h2 : x ≤ 10000000000000000) : -10000000000000000 ≤ x.tdiv 1000000000 ∧ x.tdiv 1000000000 ≤ 10000000000000000 := by
  have := Int.natAbs_tdiv_le_natAbs x 1000000000
  omega
theorem rs_Ys4 {post : Int32 → Prop} {v : SY} {e f g h : Int} (H : rs_bb e f g h) (hp : post (rs_sg (rs_V e f g h))) : wpY_signOf post v (rs_L e) (rs_L f) (rs_L g) (rs_L h) := by
  obtain ⟨P, M, T, C⟩ := v
  have nK : ¬ (1000000000 : Int64) = 0 := by decide
  have V0 := fun z => rs_V0 H z
  obtain ⟨H1, H2, H3, H4⟩ := H
  have Kr : rs_r 1000000000 := ⟨by omega, by omega⟩
  have hlo1 : -10000000000000000 ≤ f * 373095048 + g * 568877293 + h * 783178098 := by omega
  have hlo2 : f * 373095048 + g * 568877293 + h * 783178098 ≤ 10000000000000000 := by omega
  have hhi1 : -100000000000000000 ≤ e * 1000000000 + f * 1414213562 + g * 1732050807 + h * 2449489742 := by omega
  have hhi2 : e * 1000000000 + f * 1414213562 + g * 1732050807 + h * 2449489742 ≤ 100000000000000000 := by omega
  have tb := rs_tdb _ hlo1 hlo2
  have tm := rs_td (f * 373095048 + g * 568877293 + h * 783178098)
  have hV : rs_V e f g h = (e * 1000000000 + f * 1414213562 + g * 1732050807 + h * 2449489742) * 1000000000 + (f * 373095048 + g * 568877293 + h * 783178098) := by
    unfold rs_V; omega
  have hlo := rs_lo f g h
  have hhi := rs_hi e f g h
  have re : rs_r e := rs_rr (by omega) (by omega)
  have rf : rs_r f := rs_rr (by omega) (by omega)
  have rg : rs_r g := rs_rr (by omega) (by omega)
  have rh : rs_r h := rs_rr (by omega) (by omega)
  generalize f * 373095048 + g * 568877293 + h * 783178098 = lo at *
  generalize e * 1000000000 + f * 1414213562 + g * 1732050807 + h * 2449489742 = hi at *
  have ed : rs_L lo / 1000000000 = rs_L (lo.tdiv 1000000000) := by rw [rs_lK]; exact rs_div (rs_rr (by omega) (by omega)) Kr
  have e4 : rs_L hi + rs_L lo / 1000000000 = rs_L (hi + lo.tdiv 1000000000) := by rw [ed, rs_add]
  have e6 : rs_L lo - rs_L lo / 1000000000 * 1000000000 = rs_L (lo - lo.tdiv 1000000000 * 1000000000) := by rw [ed, rs_lK, rs_mul, rs_sub]
  refine nm_r hhi (nm_r hlo ⟨nK, nm_r e4 ⟨nK, nm_r e6 ?_⟩⟩)
  have key : (¬ (e = 0 ∧ f = 0 ∧ g = 0 ∧ h = 0)) → wY_signOf_95 post (rs_L (hi + lo.tdiv 1000000000)) (rs_L (lo - lo.tdiv 1000000000 * 1000000000)) P M T C := by
    intro nz
    have eV : (hi + lo.tdiv 1000000000) * 1000000000 + (lo - lo.tdiv 1000000000 * 1000000000) = rs_V e f g h := by omega
    refine rs_Y95 (rs_rr (by omega) (by omega)) tm.1 tm.2 ?_ ?_
    · rw [eV]; exact fun z => nz (V0 z)
    · rw [eV]; exact hp
  refine br_c (fun k1 => br_c (fun k2 => br_c (fun k3 => br_c (fun k4 => ?_) (fun k4 => ?_)) (fun k3 => ?_)) (fun k2 => ?_)) (fun k1 => ?_)
  · have z1 := (rs_eq0 re).mp k1
    have z2 := (rs_eq0 rf).mp k2
    have z3 := (rs_eq0 rg).mp k3
    have z4 := (rs_eq0 rh).mp k4
    rw [rs_sg0 (by unfold rs_V; omega)] at hp
    exact hp
  · exact key (fun z => k4 ((rs_eq0 rh).mpr z.2.2.2))
  · exact key (fun z => k3 ((rs_eq0 rg).mpr z.2.2.1))
  · exact key (fun z => k2 ((rs_eq0 rf).mpr z.2.1))
  · exact key (fun z => k1 ((rs_eq0 re).mpr z.1))
end
section
/-- the relation: the same parts, every register in lowest terms and within 30 -/
def i_Rel (k : Nat) (u : SX) (v : SY) : Prop := u.2.2.2.2.2.2.2 = v.1 ∧ rs_Inv v.1
theorem i_up {k : Nat} {u : SX} {v : SY} (h : i_Rel k u v) : i_Rel (k + 4) u v := h
theorem rs_rel {k : Nat} {a b c d m p q : Int64} {P : Nat → Int32} {M T C : Nat → Int64} (hI : rs_Inv P) : i_Rel k (a, b, c, d, m, p, q, P) (P, M, T, C) := And.intro rfl hI
/-- a register's number (over 10^18) and denominator -/
def rs_RV (P : Nat → Int32) (r : Nat) : Int := rs_V (P (5 * r)).toInt (P (5 * r + 1)).toInt (P (5 * r + 2)).toInt (P (5 * r + 3)).toInt
def rs_Rm (P : Nat → Int32) (r : Nat) : Int := (P (5 * r + 4)).toInt
theorem rs_bbr {P : Nat → Int32} {r : Nat} (hI : rs_Inv P) (hr : r < 6) : rs_bb (P (5 * r)).toInt (P (5 * r + 1)).toInt (P (5 * r + 2)).toInt (P (5 * r + 3)).toInt := by
  obtain ⟨h1, h2, h3, h4, h5, h6, h7⟩ := hI r hr
  exact ⟨⟨by omega, by omega⟩, ⟨by omega, by omega⟩, ⟨by omega, by omega⟩, ⟨by omega, by omega⟩⟩
/-- x n + t m y -/
def rs_c (t x n m y : Int) : Int := x * n + t * m * y
theorem rs_cb {t x n m y : Int} (ht : t = 1 ∨ t = -1) (hx : rs_bd x) (hn : rs_bd n) (hm : rs_bd m) (hy : rs_bd y) : -1800 ≤ rs_c t x n m y ∧ rs_c t x n m y ≤ 1800 := by
  have a := rs_mb hx.1 hx.2 hn.1 hn.2
  have b := rs_mb hm.1 hm.2 hy.1 hy.2
  unfold rs_c
  rcases ht with rfl | rfl
  · rw [Int.one_mul]; omega
  · rw [Int.neg_mul, Int.one_mul, Int.neg_mul]; omega
theorem rs_bm {P : Nat → Int32} {r : Nat} (hI : rs_Inv P) (hr : r < 6) : rs_bd (P (5 * r + 4)).toInt := by
  obtain ⟨h1, h2, h3, h4, h5, h6, h7⟩ := hI r hr
  exact ⟨by omega, by omega⟩
theorem rs_cbb {P : Nat → Int32} {r s : Nat} (hI : rs_Inv P) (hr : r < 6) (hs : s < 6) {t : Int} (ht : t = 1 ∨ t = -1) :
    rs_bb (rs_c t (P (5 * r)).toInt (P (5 * s + 4)).toInt (P (5 * r + 4)).toInt (P (5 * s)).toInt) (rs_c t (P (5 * r + 1)).toInt (P (5 * s + 4)).toInt (P (5 * r + 4)).toInt (P (5 * s + 1)).toInt) (rs_c t (P (5 * r + 2)).toInt (P (5 * s + 4)).toInt (P (5 * r + 4)).toInt (P (5 * s + 2)).toInt) (rs_c t (P (5 * r + 3)).toInt (P (5 * s + 4)).toInt (P (5 * r + 4)).toInt (P (5 * s + 3)).toInt) := by
  have mr := rs_bm hI hr
  have ms := rs_bm hI hs
  obtain ⟨h1, h2, h3, h4, h5, h6, h7⟩ := hI r hr
  obtain ⟨g1, g2, g3, g4, g5, g6, g7⟩ := hI s hs
  have c1 := rs_cb ht h1 ms mr g1
  have c2 := rs_cb ht h2 ms mr g2
  have c3 := rs_cb ht h3 ms mr g3
  have c4 := rs_cb ht h4 ms mr g4
  exact ⟨⟨by omega, by omega⟩, ⟨by omega, by omega⟩, ⟨by omega, by omega⟩, ⟨by omega, by omega⟩⟩
/-- the order of registers r and s -/
def rs_D (P : Nat → Int32) (r s : Nat) : Int := rs_RV P r * rs_Rm P s - rs_Rm P r * rs_RV P s
theorem rs_VD (P : Nat → Int32) (r s : Nat) : rs_V (rs_c (-1) (P (5 * r)).toInt (P (5 * s + 4)).toInt (P (5 * r + 4)).toInt (P (5 * s)).toInt) (rs_c (-1) (P (5 * r + 1)).toInt (P (5 * s + 4)).toInt (P (5 * r + 4)).toInt (P (5 * s + 1)).toInt) (rs_c (-1) (P (5 * r + 2)).toInt (P (5 * s + 4)).toInt (P (5 * r + 4)).toInt (P (5 * s + 2)).toInt) (rs_c (-1) (P (5 * r + 3)).toInt (P (5 * s + 4)).toInt (P (5 * r + 4)).toInt (P (5 * s + 3)).toInt) = rs_D P r s := by
  unfold rs_D rs_RV rs_Rm rs_V rs_c
  generalize (P (5 * r)).toInt = a1
  generalize (P (5 * r + 1)).toInt = a2
  generalize (P (5 * r + 2)).toInt = a3
  generalize (P (5 * r + 3)).toInt = a4
  generalize (P (5 * r + 4)).toInt = a5
  generalize (P (5 * s)).toInt = b1
  generalize (P (5 * s + 1)).toInt = b2
  generalize (P (5 * s + 2)).toInt = b3
  generalize (P (5 * s + 3)).toInt = b4
  generalize (P (5 * s + 4)).toInt = b5
  grind
theorem rs_Lc (x n m y : Int) : rs_L x * rs_L n - rs_L m * rs_L y = rs_L (rs_c (-1) x n m y) := by
  rw [rs_mul, rs_mul, rs_sub]
  unfold rs_c
  rw [Int.neg_mul, Int.one_mul, Int.neg_mul]
  rfl
theorem rs_Xcmp {post : Int32 → SX → Prop} {a b c d m p q : Int64} {P : Nat → Int32} {r s : Nat} (hI : rs_Inv P) (hr : r < 6) (hs : s < 6)
    (h : ∀ x1 x2 x3 x4 x5 x6 x7 : Int64, post (rs_sg (rs_D P r s)) (x1, x2, x3, x4, x5, x6, x7, P)) : wpX_compared post (a, b, c, d, m, p, q, P) (nI r) (nI s) := by
  unfold wpX_compared
  dsimp only
  refine rs_Xload hr ?_
  simp only [rs_v0 hs, rs_v1 hs, rs_v2 hs, rs_v3 hs, rs_v4 hs, rs_c0 hs, rs_c1 hs, rs_c2 hs, rs_c3 hs, rs_c4 hs, true_and, forall_eq, rs_to, rs_Lc]
  unfold wpX_signNow
  dsimp only
  refine rs_Xs4 (rs_cbb hI hr hs (Or.inr rfl)) (fun p' q' => ?_)
  rw [rs_VD]
  exact h _ _ _ _ _ _ _
/-- Y's combine -/
theorem rs_Lc2 {t : Int} (ht : t = 1 ∨ t = -1) {X Y : Int32} {n m : Int} (hy : rs_bd Y.toInt) : X.toInt64 * rs_L n + (rs_I t * Y).toInt64 * rs_L m = rs_L (rs_c t X.toInt n m Y.toInt) := by
  have e : (rs_I t * Y).toInt64 = rs_L (t * Y.toInt) := by
    have h1 := hy.1
    have h2 := hy.2
    have k : -30 ≤ t * Y.toInt ∧ t * Y.toInt ≤ 30 := by
      rcases ht with rfl | rfl
      · rw [Int.one_mul]; omega
      · rw [Int.neg_mul, Int.one_mul]; omega
    rw [← rs_II Y, rs_Imul, rs_Ito (by omega) (by omega), rs_II]
  rw [e, rs_to, rs_mul, rs_mul, rs_add]
  unfold rs_c
  rw [Int.mul_right_comm t]
theorem rs_n40 : ¬ (4 : Int32) ≤ 0 := by decide
theorem rs_n41 : ¬ (4 : Int32) ≤ 1 := by decide
theorem rs_n42 : ¬ (4 : Int32) ≤ 2 := by decide
theorem rs_n43 : ¬ (4 : Int32) ≤ 3 := by decide
theorem rs_y44 : (4 : Int32) ≤ 4 := by decide
theorem rs_tr {A : Prop} (h : A = True) : A := h.symm ▸ trivial
theorem rs_p0 {r : Nat} : 5 * nI r + 0 = 5 * nI r := Int32.add_zero _
theorem rs_Ycomb {post : SY → Prop} {P : Nat → Int32} {M T C : Nat → Int64} {r s : Nat} (hI : rs_Inv P) (hr : r < 6) (hs : s < 6) {t : Int} (ht : t = 1 ∨ t = -1)
    (h : ∀ M', rs_M5 M' (rs_c t (P (5 * r)).toInt (P (5 * s + 4)).toInt (P (5 * r + 4)).toInt (P (5 * s)).toInt) (rs_c t (P (5 * r + 1)).toInt (P (5 * s + 4)).toInt (P (5 * r + 4)).toInt (P (5 * s + 1)).toInt) (rs_c t (P (5 * r + 2)).toInt (P (5 * s + 4)).toInt (P (5 * r + 4)).toInt (P (5 * s + 2)).toInt) (rs_c t (P (5 * r + 3)).toInt (P (5 * s + 4)).toInt (P (5 * r + 4)).toInt (P (5 * s + 3)).toInt) ((P (5 * r + 4)).toInt * (P (5 * s + 4)).toInt) → post (P, M', T, C)) :
    wpY_combine post (P, M, T, C) (nI r) (nI s) (rs_I t) := by
  obtain ⟨g1, g2, g3, g4, g5, g6, g7⟩ := hI s hs
  refine ⟨rs_tr (rs_v4 hr), nm_r (e' := rs_L (P (5 * r + 4)).toInt) (by rw [rs_c4 hr]; rfl) ⟨rs_tr (rs_v4 hs), nm_r (e' := rs_L (P (5 * s + 4)).toInt) (by rw [rs_c4 hs]; rfl) ⟨5, ?_⟩⟩⟩
  have E (k : Nat) (hk : k < 5) (Q : Nat → Int64) (i : Nat) (hy : rs_bd (P (5 * s + k)).toInt) : vp_updL Q i ((P (5 * nI r + nI k).toNatClampNeg).toInt64 * rs_L (P (5 * s + 4)).toInt + (rs_I t * P (5 * nI s + nI k).toNatClampNeg).toInt64 * rs_L (P (5 * r + 4)).toInt) = vp_updL Q i (rs_L (rs_c t (P (5 * r + k)).toInt (P (5 * s + 4)).toInt (P (5 * r + 4)).toInt (P (5 * s + k)).toInt)) := by
    rw [rs_ck k hr hk, rs_ck k hs hk, rs_Lc2 ht hy]
  refine br_f rs_n40 ⟨rs_tr (rs_vk 0 hr (by decide)), rs_tr (rs_vk 0 hs (by decide)), rs_in5_0, nm_r (E 0 (by decide) M _ g1) (nm_r rs_a0 ?_)⟩
  refine br_f rs_n41 ⟨rs_tr (rs_vk 1 hr (by decide)), rs_tr (rs_vk 1 hs (by decide)), rs_in5_1, nm_r (E 1 (by decide) _ _ g2) (nm_r rs_a1 ?_)⟩
  refine br_f rs_n42 ⟨rs_tr (rs_vk 2 hr (by decide)), rs_tr (rs_vk 2 hs (by decide)), rs_in5_2, nm_r (E 2 (by decide) _ _ g3) (nm_r rs_a2 ?_)⟩
  refine br_f rs_n43 ⟨rs_tr (rs_vk 3 hr (by decide)), rs_tr (rs_vk 3 hs (by decide)), rs_in5_3, nm_r (E 3 (by decide) _ _ g4) (nm_r rs_a3 ?_)⟩
  refine br_t rs_y44 (nm_r (by rw [rs_mul]) (h _ ?_))
  exact ⟨rfl, rfl, rfl, rfl, rfl⟩
theorem rs_Im1 : (-1 : Int32) = rs_I (-1) := by decide
theorem rs_Ip1 : (1 : Int32) = rs_I 1 := by decide
theorem rs_Yord {post : Int32 → SY → Prop} {P : Nat → Int32} {M T C : Nat → Int64} {r s : Nat} (hI : rs_Inv P) (hr : r < 6) (hs : s < 6)
    (h : ∀ M', post (rs_sg (rs_D P r s)) (P, M', T, C)) : wpY_order post (P, M, T, C) (nI r) (nI s) := by
  unfold wpY_order
  dsimp only
  rw [rs_Im1]
  refine rs_Ycomb hI hr hs (Or.inr rfl) (fun M' hM => ?_)
  dsimp only
  rw [hM.1, hM.2.1, hM.2.2.1, hM.2.2.2.1]
  refine rs_Ys4 (rs_cbb hI hr hs (Or.inr rfl)) ?_
  rw [rs_VD]
  exact h M'
theorem i_vc_sign {k : Nat} {u : SX} {v : SY} (I : i_Rel k u v) (hk : k + 4 ≤ 2048) (v1 : Int32) : wpX_sign (fun r u' => wpY_sign (fun r' => r' = r ∧ i_Rel (k + 4) u' v) v v1) u v1 := by
  obtain ⟨a, b, c, d, m, p, q, P⟩ := u
  obtain ⟨P', M, T, C⟩ := v
  have e : P = P' := I.1
  have hI : rs_Inv P' := I.2
  subst e
  unfold wpX_sign
  dsimp only
  rcases rs_reg v1 with ⟨r, hr, rfl⟩ | hb
  · refine rs_Xg hr (br_t rfl (rs_Xload hr ?_))
    unfold wpX_signNow
    dsimp only
    refine rs_Xs4 (rs_bbr hI hr) (fun p' q' => ?_)
    unfold wpY_sign
    dsimp only
    refine rs_Yg hr (br_f rs_01 ?_)
    simp only [rs_v0 hr, rs_v1 hr, rs_v2 hr, rs_v3 hr, rs_c0 hr, rs_c1 hr, rs_c2 hr, rs_c3 hr, true_and, rs_to]
    exact rs_Ys4 (rs_bbr hI hr) ⟨rfl, rs_rel hI⟩
  · refine rs_Xb hb (br_f rs_01 ?_)
    unfold wpY_sign
    dsimp only
    exact rs_Yb hb (br_t rfl ⟨rfl, rs_rel hI⟩)
theorem i_vc_compare {k : Nat} {u : SX} {v : SY} (I : i_Rel k u v) (hk : k + 4 ≤ 2048) (v1 : Int32) (v2 : Int32) : wpX_compare (fun r u' => wpY_compare (fun r' v' => r' = r ∧ i_Rel (k + 4) u' v') v v1 v2) u v1 v2 := by
  obtain ⟨a, b, c, d, m, p, q, P⟩ := u
  obtain ⟨P', M, T, C⟩ := v
  have e : P = P' := I.1
  have hI : rs_Inv P' := I.2
  subst e
  unfold wpX_compare
  dsimp only
  rcases rs_reg v1 with ⟨r, hr, rfl⟩ | hb
  · refine rs_Xg hr (br_t rfl ?_)
    rcases rs_reg v2 with ⟨s, hs, rfl⟩ | hb2
    · refine rs_Xg hs (br_t rfl ?_)
      refine rs_Xcmp hI hr hs (fun x1 x2 x3 x4 x5 x6 x7 => ?_)
      unfold wpY_compare
      dsimp only
      refine rs_Yg hr (br_f rs_01 (rs_Yg hs (br_f rs_01 ?_)))
      exact rs_Yord hI hr hs (fun M' => ⟨rfl, rs_rel hI⟩)
    · refine rs_Xb hb2 (br_f rs_01 ?_)
      unfold wpY_compare
      dsimp only
      exact rs_Yg hr (br_f rs_01 (rs_Yb hb2 (br_t rfl ⟨rfl, rs_rel hI⟩)))
  · refine rs_Xb hb (br_f rs_01 ?_)
    unfold wpY_compare
    dsimp only
    exact rs_Yb hb (br_t rfl ⟨rfl, rs_rel hI⟩)
end
section
/-! floors -/
theorem rs_sglt (z : Int) : rs_sg z < 0 ↔ z < 0 := by
  rcases rs_tri z with h | h | h
  · rw [rs_sg0 h]; exact ⟨fun k => absurd k (by decide), fun k => by omega⟩
  · rw [rs_sgp h]; exact ⟨fun k => absurd k (by decide), fun k => by omega⟩
  · rw [rs_sgn h]; exact ⟨fun _ => h, fun _ => by decide⟩
theorem rs_sgle (z : Int) : rs_sg z ≤ 0 ↔ z ≤ 0 := by
  rcases rs_tri z with h | h | h
  · rw [rs_sg0 h]; exact ⟨fun _ => by omega, fun _ => by decide⟩
  · rw [rs_sgp h]; exact ⟨fun k => absurd k (by decide), fun k => by omega⟩
  · rw [rs_sgn h]; exact ⟨fun _ => by omega, fun _ => by decide⟩
theorem rs_sgeq (z : Int) : rs_sg z = 0 ↔ z = 0 := by
  rcases rs_tri z with h | h | h
  · rw [rs_sg0 h]; exact ⟨fun _ => h, fun _ => rfl⟩
  · rw [rs_sgp h]; exact ⟨fun k => absurd k (by decide), fun k => by omega⟩
  · rw [rs_sgn h]; exact ⟨fun k => absurd k (by decide), fun k => by omega⟩
theorem rs_Ile {x y : Int} (h1 : -2147483648 ≤ x) (h2 : x ≤ 2147483647) (h3 : -2147483648 ≤ y) (h4 : y ≤ 2147483647) : rs_I x ≤ rs_I y ↔ x ≤ y := by
  rw [Int32.le_iff_toInt_le, rs_Iti h1 h2, rs_Iti h3 h4]
theorem rs_I1 (z : Int) : rs_I z + 1 = rs_I (z + 1) := rs_Iadd z 1
theorem rs_mid {x y : Int} (h1 : -100000 ≤ x) (h2 : x ≤ 100000) (h3 : -100000 ≤ y) (h4 : y ≤ 100000) : (rs_I x + rs_I y) >>> ((1 : Int32) &&& 31) = rs_I ((x + y) / 2) := by
  apply Int32.toInt_inj.mp
  rw [pk_shr _ _ 1 (by decide), rs_Iadd, rs_Iti (by omega) (by omega), rs_Iti (by omega) (by omega), Int.shiftRight_eq_div_pow]
  rfl
/-- the form at n times a number less z whole ones -/
theorem rs_Vn (n a b c d m z : Int) : rs_V (n * a - z * m) (n * b) (n * c) (n * d) = n * rs_V a b c d - z * (m * 1000000000000000000) := by
  unfold rs_V
  grind
theorem rs_nb {n x : Int} (h1 : 0 ≤ n) (h2 : n ≤ 5) (hx : rs_bd x) : -150 ≤ n * x ∧ n * x ≤ 150 := by
  have := rs_mb (x := n) (y := x) (a := 5) (b := 30) (by omega) h2 hx.1 hx.2
  omega
theorem rs_bbf {n a b c d m z : Int} (h1 : 0 ≤ n) (h2 : n ≤ 5) (ha : rs_bd a) (hb : rs_bd b) (hc : rs_bd c) (hd : rs_bd d) (hm : rs_bd m) (z1 : -1100 ≤ z) (z2 : z ≤ 1100) : rs_bb (n * a - z * m) (n * b) (n * c) (n * d) := by
  have a1 := rs_nb h1 h2 ha
  have b1 := rs_nb h1 h2 hb
  have c1 := rs_nb h1 h2 hc
  have d1 := rs_nb h1 h2 hd
  have m1 := rs_mb (x := z) (y := m) (a := 1100) (b := 30) z1 z2 hm.1 hm.2
  exact ⟨⟨by omega, by omega⟩, ⟨by omega, by omega⟩, ⟨by omega, by omega⟩, ⟨by omega, by omega⟩⟩
/-- F is the floor of n times the number -/
def rs_isF (n V m F : Int) : Prop := (∀ z : Int, z ≤ F ↔ z * (m * 1000000000000000000) ≤ n * V) ∧ -1000 ≤ F ∧ F < 1000
theorem rs_exF {n a b c d m : Int} (h1 : 0 ≤ n) (h2 : n ≤ 5) (ha : rs_bd a) (hb : rs_bd b) (hc : rs_bd c) (hd : rs_bd d) (m1 : 1 ≤ m) : ∃ F, rs_isF n (rs_V a b c d) m F := by
  have V1 : -198000000000000000000 ≤ rs_V a b c d := by unfold rs_V; omega
  have V2 : rs_V a b c d ≤ 198000000000000000000 := by unfold rs_V; omega
  have nV := rs_mb (x := n) (y := rs_V a b c d) (a := 5) (b := 198000000000000000000) (by omega) h2 V1 V2
  have pos : 0 < m * 1000000000000000000 := by omega
  have key : ∀ z : Int, z ≤ n * rs_V a b c d / (m * 1000000000000000000) ↔ z * (m * 1000000000000000000) ≤ n * rs_V a b c d := fun z => Int.le_ediv_iff_mul_le pos
  refine ⟨n * rs_V a b c d / (m * 1000000000000000000), key, (key _).mpr (by omega), ?_⟩
  apply Int.lt_of_not_ge
  intro k
  have := (key 1000).mp k
  omega
theorem rs_Xfl {post : Int32 → SX → Prop} {P : Nat → Int32} {n a b c d m F : Int} (h1 : 0 ≤ n) (h2 : n ≤ 5) (ha : rs_bd a) (hb : rs_bd b) (hc : rs_bd c) (hd : rs_bd d) (hm : rs_bd m) (hF : rs_isF n (rs_V a b c d) m F)
    (h : ∀ p q : Int64, post (rs_I F) (rs_L a, rs_L b, rs_L c, rs_L d, rs_L m, p, q, P)) :
    ∀ (t fuel i : Nat) (lo hi : Int) (p q : Int64), -1000 ≤ lo → lo ≤ F → F < hi → hi ≤ 1000 → hi - lo ≤ (2 ^ t : Nat) → i + t ≤ 16 → t < fuel →
      wX_floorOf_12 post (rs_L n) fuel (rs_I lo) (rs_I hi) (nI i) (rs_L a) (rs_L b) (rs_L c) (rs_L d) (rs_L m) p q P := by
  intro t
  induction t with
  | zero =>
    intro fuel i lo hi p q l1 l2 l3 l4 l5 l6 l7
    obtain ⟨fuel, rfl⟩ : ∃ k, fuel = k + 1 := ⟨fuel - 1, by omega⟩
    have l5' : hi - lo ≤ 1 := l5
    have e : lo = F := by omega
    subst e
    refine br_c (fun _ => h p q) (fun _ => br_t ?_ (h p q))
    rw [rs_I1, rs_Ile (by omega) (by omega) (by omega) (by omega)]
    omega
  | succ t ih =>
    intro fuel i lo hi p q l1 l2 l3 l4 l5 l6 l7
    obtain ⟨fuel, rfl⟩ : ∃ k, fuel = k + 1 := ⟨fuel - 1, by omega⟩
    refine br_f (nI_ge (b := 16) (by omega) (by decide)) ?_
    by_cases k : hi ≤ lo + 1
    · have e : lo = F := by omega
      subst e
      refine br_t ?_ (h p q)
      rw [rs_I1, rs_Ile (by omega) (by omega) (by omega) (by omega)]
      exact k
    · refine br_f ?_ (nm_r (rs_mid (by omega) (by omega) (by omega) (by omega)) ?_)
      · rw [rs_I1, rs_Ile (by omega) (by omega) (by omega) (by omega)]
        exact k
      have e2 : ((2 ^ (t + 1) : Nat) : Int) = 2 * ((2 ^ t : Nat) : Int) := by rw [Nat.pow_succ]; omega
      rw [e2] at l5
      generalize hmd : (lo + hi) / 2 = md
      have md1 : lo < md := by omega
      have md2 : md < hi := by omega
      rw [rs_Ito (by omega) (by omega), rs_mul, rs_mul, rs_sub, rs_mul, rs_mul, rs_mul]
      refine rs_Xs4 (rs_bbf h1 h2 ha hb hc hd hm (by omega) (by omega)) (fun p' q' => ?_)
      dsimp only
      rw [rs_Vn, rs_sglt]
      have kF := hF.1 md
      refine br_c (fun j => nm_r (nI_1 i) ?_) (fun j => nm_r (nI_1 i) ?_)
      · exact ih fuel (i + 1) lo md p' q' l1 l2 (by
          apply Int.lt_of_not_ge
          intro z
          have := kF.mp z
          omega) (by omega) (by omega) (by omega) (by omega)
      · exact ih fuel (i + 1) md hi p' q' (by omega) (kF.mpr (by omega)) l3 l4 (by omega) (by omega) (by omega)
theorem rs_Xfloor {post : Int32 → SX → Prop} {p q : Int64} {P : Nat → Int32} {n a b c d m F : Int} (h1 : 0 ≤ n) (h2 : n ≤ 5) (ha : rs_bd a) (hb : rs_bd b) (hc : rs_bd c) (hd : rs_bd d) (hm : rs_bd m) (hF : rs_isF n (rs_V a b c d) m F)
    (h : ∀ p q : Int64, post (rs_I F) (rs_L a, rs_L b, rs_L c, rs_L d, rs_L m, p, q, P)) :
    wpX_floorOf post (rs_L a, rs_L b, rs_L c, rs_L d, rs_L m, p, q, P) (rs_L n) :=
  ⟨12, rs_Xfl h1 h2 ha hb hc hd hm hF h 11 12 0 (-1000) 1000 p q (by omega) hF.2.1 hF.2.2 (by omega) (by decide) (by omega) (by omega)⟩
theorem rs_In {n : Int} {X : Int32} (h1 : 0 ≤ n) (h2 : n ≤ 5) (hx : rs_bd X.toInt) : (rs_I n * X).toInt64 = rs_L (n * X.toInt) := by
  have k := rs_nb h1 h2 hx
  rw [← rs_II X, rs_Imul, rs_Ito (by omega) (by omega), rs_II]
theorem rs_Yfl {post : Int32 → Prop} {P : Nat → Int32} {M T C : Nat → Int64} {r : Nat} (hI : rs_Inv P) (hr : r < 6) {n F : Int} (h1 : 0 ≤ n) (h2 : n ≤ 5) (hF : rs_isF n (rs_RV P r) (rs_Rm P r) F) (h : post (rs_I F)) :
    ∀ (t fuel : Nat) (f : Int) (s : Int32), -1100 ≤ f → F - f = t → (s < 0 ↔ F ≤ f) → t < fuel → wY_wholePart_7 post (nI r) (rs_I n) P M T C fuel (rs_I f) s := by
  obtain ⟨g1, g2, g3, g4, g5, g6, g7⟩ := hI r hr
  have gm := rs_bm hI hr
  intro t
  induction t with
  | zero =>
    intro fuel f s f1 f2 f3 f4
    obtain ⟨fuel, rfl⟩ : ∃ k, fuel = k + 1 := ⟨fuel - 1, by omega⟩
    have e : f = F := by omega
    subst e
    exact br_t (f3.mpr (Int.le_refl _)) h
  | succ t ih =>
    intro fuel f s f1 f2 f3 f4
    obtain ⟨fuel, rfl⟩ : ∃ k, fuel = k + 1 := ⟨fuel - 1, by omega⟩
    have hF2 := hF.2
    refine br_f (fun z => by have := f3.mp z; omega) (nm_r (rs_I1 f) ?_)
    refine ⟨rs_tr (rs_v0 hr), rs_tr (rs_v4 hr), nm_r (e' := rs_L (n * (P (5 * r)).toInt - (f + 1 + 1) * (P (5 * r + 4)).toInt)) ?_ ⟨rs_tr (rs_v1 hr), rs_tr (rs_v2 hr), rs_tr (rs_v3 hr), ?_⟩⟩
    · rw [rs_c0 hr, rs_c4 hr, rs_In h1 h2 g1, rs_Ito (by omega) (by omega), rs_l1, rs_add, rs_to, rs_mul, rs_sub]
    · rw [rs_c1 hr, rs_c2 hr, rs_c3 hr, rs_In h1 h2 g2, rs_In h1 h2 g3, rs_In h1 h2 g4]
      refine rs_Ys4 (rs_bbf h1 h2 g1 g2 g3 g4 gm (by omega) (by omega)) ?_
      refine ih fuel (f + 1) _ (by omega) (by omega) ?_ (by omega)
      rw [rs_Vn, rs_sglt]
      have kF : f + 1 + 1 ≤ F ↔ (f + 1 + 1) * ((P (5 * r + 4)).toInt * 1000000000000000000) ≤ n * rs_V (P (5 * r)).toInt (P (5 * r + 1)).toInt (P (5 * r + 2)).toInt (P (5 * r + 3)).toInt := hF.1 (f + 1 + 1)
      constructor
      · intro z
        apply Int.le_of_not_gt
        intro y
        have := kF.mp (by omega)
        omega
      · intro z
        apply Int.lt_of_not_ge
        intro y
        have := kF.mpr (by omega)
        omega
theorem rs_Ywhole {post : Int32 → Prop} {P : Nat → Int32} {M T C : Nat → Int64} {r : Nat} (hI : rs_Inv P) (hr : r < 6) {n F : Int} (h1 : 0 ≤ n) (h2 : n ≤ 5) (hF : rs_isF n (rs_RV P r) (rs_Rm P r) F) (h : post (rs_I F)) :
    wpY_wholePart post (P, M, T, C) (nI r) (rs_I n) := by
  have b := hF.2
  exact ⟨(F + 1100).toNat + 1, rs_Yfl hI hr h1 h2 hF h (F + 1100).toNat _ (-1100) 1 (by omega) (by omega) ⟨fun z => absurd z (by decide), fun z => by omega⟩ (by omega)⟩
theorem i_vc_floor {k : Nat} {u : SX} {v : SY} (I : i_Rel k u v) (hk : k + 4 ≤ 2048) (v1 : Int32) : wpX_floor (fun r u' => wpY_floor (fun r' => r' = r ∧ i_Rel (k + 4) u' v) v v1) u v1 := by
  obtain ⟨a, b, c, d, m, p, q, P⟩ := u
  obtain ⟨P', M, T, C⟩ := v
  have e : P = P' := I.1
  have hI : rs_Inv P' := I.2
  subst e
  unfold wpX_floor
  dsimp only
  rcases rs_reg v1 with ⟨r, hr, rfl⟩ | hb
  · have g := hI r hr
    obtain ⟨F, hF⟩ := rs_exF (n := 1) (by decide) (by decide) g.1 g.2.1 g.2.2.1 g.2.2.2.1 g.2.2.2.2.1
    refine rs_Xg hr (br_t rfl (rs_Xload hr ?_))
    refine rs_Xfloor (n := 1) (by decide) (by decide) g.1 g.2.1 g.2.2.1 g.2.2.2.1 (rs_bm hI hr) hF (fun p' q' => ?_)
    unfold wpY_floor
    dsimp only
    refine rs_Yg hr (br_f rs_01 ?_)
    exact rs_Ywhole (n := 1) hI hr (by decide) (by decide) hF ⟨rfl, rs_rel hI⟩
  · refine rs_Xb hb (br_f rs_01 ?_)
    unfold wpY_floor
    dsimp only
    exact rs_Yb hb (br_t rfl ⟨rfl, rs_rel hI⟩)
theorem i_vc_multipleFloor {k : Nat} {u : SX} {v : SY} (I : i_Rel k u v) (hk : k + 4 ≤ 2048) (v1 : Int32) (v2 : Int32) : wpX_multipleFloor (fun r u' => wpY_multipleFloor (fun r' => r' = r ∧ i_Rel (k + 4) u' v) v v1 v2) u v1 v2 := by
  obtain ⟨a, b, c, d, m, p, q, P⟩ := u
  obtain ⟨P', M, T, C⟩ := v
  have e : P = P' := I.1
  have hI : rs_Inv P' := I.2
  subst e
  unfold wpX_multipleFloor
  dsimp only
  rcases rs_reg v1 with ⟨r, hr, rfl⟩ | hb
  · refine rs_Xg hr (br_t rfl (br_c (fun k1 => ?_) (fun k1 => br_c (fun k2 => ?_) (fun k2 => ?_))))
    · unfold wpY_multipleFloor
      dsimp only
      exact rs_Yg hr (br_f rs_01 (br_t k1 ⟨rfl, rs_rel hI⟩))
    · have g := hI r hr
      have e0 : (0 : Int32).toInt = 0 := by decide
      have e5 : (5 : Int32).toInt = 5 := by decide
      have n1 : 0 ≤ v2.toInt := by rw [Int32.lt_iff_toInt_lt, e0] at k1; omega
      have n2 : v2.toInt ≤ 5 := by rw [Int32.le_iff_toInt_le, e5] at k2; omega
      obtain ⟨F, hF⟩ := rs_exF n1 n2 g.1 g.2.1 g.2.2.1 g.2.2.2.1 g.2.2.2.2.1
      refine rs_Xload hr ?_
      rw [rs_to]
      refine rs_Xfloor n1 n2 g.1 g.2.1 g.2.2.1 g.2.2.2.1 (rs_bm hI hr) hF (fun p' q' => ?_)
      unfold wpY_multipleFloor
      dsimp only
      refine rs_Yg hr (br_f rs_01 (br_f k1 (br_f (fun z => ?_) ?_)))
      · rw [Int32.lt_iff_toInt_lt, e5] at z; omega
      · have W := rs_Ywhole (post := fun r_9 => r_9 = rs_I F ∧ i_Rel (k + 4) (rs_L (P (5 * r)).toInt, rs_L (P (5 * r + 1)).toInt, rs_L (P (5 * r + 2)).toInt, rs_L (P (5 * r + 3)).toInt, rs_L (P (5 * r + 4)).toInt, p', q', P) (P, M, T, C)) (M := M) (T := T) (C := C) hI hr n1 n2 hF ⟨rfl, rs_rel hI⟩
        rw [rs_II] at W
        exact W
    · unfold wpY_multipleFloor
      dsimp only
      refine rs_Yg hr (br_f rs_01 (br_f k1 (br_t ?_ ⟨rfl, rs_rel hI⟩)))
      rw [Int32.le_iff_toInt_le] at k2
      rw [Int32.lt_iff_toInt_lt]
      omega
  · refine rs_Xb hb (br_f rs_01 ?_)
    unfold wpY_multipleFloor
    dsimp only
    exact rs_Yb hb (br_t rfl ⟨rfl, rs_rel hI⟩)
end
section
/-! flips, positive, degree -/
def rs_fl (k w : Int32) : Int32 :=
  if k = 1 ∧ w - w / 2 * 2 = 1 then -1
  else if k = 2 ∧ ¬ w ≤ 1 then -1
  else if k = 3 ∧ ¬ ((w - w / 2 * 2 = 1) ↔ ¬ w ≤ 1) then -1
  else 1
theorem rs_fl_pm (k w : Int32) : rs_fl k w = 1 ∨ rs_fl k w = -1 := by
  unfold rs_fl
  split
  · exact Or.inr rfl
  · split
    · exact Or.inr rfl
    · split
      · exact Or.inr rfl
      · exact Or.inl rfl
theorem rs_Y44 {post : Int32 → Prop} {P : Nat → Int32} {M T C : Nat → Int64} {k x y : Int32} {z : Int32} (h : post z) (hz : (k = 3 ∧ ¬ x = y → z = -1) ∧ (¬ (k = 3 ∧ ¬ x = y) → z = 1)) : wY_flip_44 post k x y P M T C := by
  refine br_c (fun k1 => br_c (fun k2 => ?_) (fun k2 => ?_)) (fun k1 => ?_)
  · rw [hz.2 (fun n => n.2 k2)] at h; exact h
  · rw [hz.1 ⟨k1, k2⟩] at h; exact h
  · rw [hz.2 (fun n => k1 n.1)] at h; exact h
theorem rs_Y23 {post : Int32 → Prop} {P : Nat → Int32} {M T C : Nat → Int64} {k x y z : Int32} (h : post z) (hz : z = if k = 1 ∧ ¬ x = 0 then -1 else if k = 2 ∧ ¬ y = 0 then -1 else if k = 3 ∧ ¬ x = y then -1 else 1) : wY_flip_23 post k x y P M T C := by
  have A : ¬ (k = 1 ∧ ¬ x = 0) → wY_flip_34 post k x y P M T C := by
    intro n1
    rw [if_neg n1] at hz
    have B : ¬ (k = 2 ∧ ¬ y = 0) → wY_flip_44 post k x y P M T C := by
      intro n2
      rw [if_neg n2] at hz
      exact rs_Y44 h ⟨fun e => by rw [hz, if_pos e], fun e => by rw [hz, if_neg e]⟩
    refine br_c (fun k1 => br_c (fun k2 => B (fun n => n.2 k2)) (fun k2 => ?_)) (fun k1 => B (fun n => k1 n.1))
    rw [hz, if_pos ⟨k1, k2⟩] at h; exact h
  refine br_c (fun k1 => br_c (fun k2 => A (fun n => n.2 k2)) (fun k2 => ?_)) (fun k1 => A (fun n => k1 n.1))
  rw [hz, if_pos ⟨k1, k2⟩] at h; exact h
theorem rs_Yflip {post : Int32 → Prop} {v : SY} {k w : Int32} (h : post (rs_fl k w)) : wpY_flip post v k w := by
  obtain ⟨P, M, T, C⟩ := v
  refine ⟨by decide, br_c (fun k1 => br_c (fun k2 => ?_) (fun k2 => ?_)) (fun k1 => br_c (fun k2 => ?_) (fun k2 => ?_))⟩
  · refine rs_Y23 h ?_
    simp [rs_fl, k1, k2]
  · refine rs_Y23 h ?_
    simp [rs_fl, k1, k2]
  · refine rs_Y23 h ?_
    simp [rs_fl, k1, k2]
  · refine rs_Y23 h ?_
    simp [rs_fl, k1, k2]
def rs_cn (x : Int32) (z : Int) : Int32 := if z ≤ 0 then x else x + 1
theorem rs_X53 {post : Int32 → SX → Prop} {J : Int32 → Int32 → Int64 → Int64 → Int64 → Int64 → Int64 → Int64 → Int64 → (Nat → Int32) → Prop} {x2 x3 : Int32} {a b c d : Int} {m p q : Int64} {P : Nat → Int32} {x4 z0 : Int64} {u w : Int} (e4 : x4 = rs_L u) (e0 : z0 = rs_L w) (H : rs_bb a (u * b) (w * c) (u * w * d))
    (h : ∀ p' q', J (rs_cn x2 (rs_V a (u * b) (w * c) (u * w * d))) (x3 + 1) (rs_L a) (rs_L b) (rs_L c) (rs_L d) m p' q' P) :
    wX_positive_53 post J x2 x3 x4 z0 (rs_L a) (rs_L b) (rs_L c) (rs_L d) m p q P := by
  subst e4 e0
  unfold wX_positive_53
  rw [rs_mul, rs_mul, rs_mul, rs_mul]
  refine rs_Xs4 H (fun p' q' => ?_)
  have g := h p' q'
  unfold rs_cn at g
  dsimp only
  rw [rs_sgle]
  refine br_c (fun k => nm_e ?_) (fun k => nm_e (nm_e ?_))
  · rw [if_pos k] at g; exact g
  · rw [if_neg k] at g; exact g
theorem rs_pmb {u x : Int} (hu : u = 1 ∨ u = -1) (hx : rs_bd x) : rs_bd (u * x) := by
  have h1 := hx.1
  have h2 := hx.2
  rcases hu with rfl | rfl
  · rw [Int.one_mul]; exact hx
  · rw [Int.neg_mul, Int.one_mul]; exact ⟨by omega, by omega⟩
theorem rs_pmm {u w : Int} (hu : u = 1 ∨ u = -1) (hw : w = 1 ∨ w = -1) : u * w = 1 ∨ u * w = -1 := by
  rcases hu with rfl | rfl <;> rcases hw with rfl | rfl <;> decide
theorem rs_pbb {a b c d u w : Int} (hu : u = 1 ∨ u = -1) (hw : w = 1 ∨ w = -1) (ha : rs_bd a) (hb : rs_bd b) (hc : rs_bd c) (hd : rs_bd d) : rs_bb a (u * b) (w * c) (u * w * d) := by
  have b1 := rs_pmb hu hb
  have c1 := rs_pmb hw hc
  have d1 := rs_pmb (rs_pmm hu hw) hd
  exact ⟨⟨by omega, by omega⟩, ⟨by omega, by omega⟩, ⟨by omega, by omega⟩, ⟨by omega, by omega⟩⟩
theorem rs_Xpos {post : Int32 → SX → Prop} {a b c d : Int} {m p q : Int64} {P : Nat → Int32} (ha : rs_bd a) (hb : rs_bd b) (hc : rs_bd c) (hd : rs_bd d)
    (h : ∀ p' q', post (rs_cn (rs_cn (rs_cn (rs_cn 0 (rs_V a (1 * b) (1 * c) (1 * 1 * d))) (rs_V a (-1 * b) (1 * c) (-1 * 1 * d))) (rs_V a (1 * b) (-1 * c) (1 * -1 * d))) (rs_V a (-1 * b) (-1 * c) (-1 * -1 * d))) (rs_L a, rs_L b, rs_L c, rs_L d, m, p', q', P)) :
    wX_positive_20 post 5 0 0 (rs_L a) (rs_L b) (rs_L c) (rs_L d) m p q P := by
  refine br_f rs_n40 (br_f (by decide) (br_t (by decide) (rs_X53 (u := 1) (w := 1) rs_l1 rs_l1 (rs_pbb (Or.inl rfl) (Or.inl rfl) ha hb hc hd) (fun p1 q1 => ?_))))
  rw [rs_a0]
  refine br_f rs_n41 (br_t (by decide) (br_t (by decide) (rs_X53 (u := -1) (w := 1) rs_lm1 rs_l1 (rs_pbb (Or.inr rfl) (Or.inl rfl) ha hb hc hd) (fun p1 q1 => ?_))))
  rw [rs_a1]
  refine br_f rs_n42 (br_f (by decide) (br_f (by decide) (rs_X53 (u := 1) (w := -1) rs_l1 rs_lm1 (rs_pbb (Or.inl rfl) (Or.inr rfl) ha hb hc hd) (fun p1 q1 => ?_))))
  rw [rs_a2]
  refine br_f rs_n43 (br_t (by decide) (br_f (by decide) (rs_X53 (u := -1) (w := -1) rs_lm1 rs_lm1 (rs_pbb (Or.inr rfl) (Or.inr rfl) ha hb hc hd) (fun p1 q1 => ?_))))
  rw [rs_a3]
  exact br_t rs_y44 (h _ _)
theorem rs_xu {X : Int32} {u : Int} (hu : u = 1 ∨ u = -1) (hx : rs_bd X.toInt) : (X * rs_I u).toInt64 = rs_L (u * X.toInt) := by
  have k := rs_pmb hu hx
  rw [← rs_II X, rs_Imul, Int.mul_comm, rs_Ito (by omega) (by omega), rs_II]
theorem rs_Y15 {post : Int32 → Prop} {P : Nat → Int32} {M T C : Nat → Int64} {r n : Nat} {x2 : Int32} (hI : rs_Inv P) (hr : r < 6) (w : Int32) (u v : Int) (hu : u = 1 ∨ u = -1) (hv : v = 1 ∨ v = -1) (f1 : rs_fl 1 w = rs_I u) (f2 : rs_fl 2 w = rs_I v) (f3 : rs_fl 3 w = rs_I (u * v)) (hw : ¬ 4 ≤ w)
    (h : wY_positive_15 post (nI r) P M T C n (rs_cn x2 (rs_V (P (5 * r)).toInt (u * (P (5 * r + 1)).toInt) (v * (P (5 * r + 2)).toInt) (u * v * (P (5 * r + 3)).toInt))) (w + 1)) :
    wY_positive_15 post (nI r) P M T C (n + 1) x2 w := by
  obtain ⟨g1, g2, g3, g4, g5, g6, g7⟩ := hI r hr
  refine br_f hw ⟨rs_tr (rs_v1 hr), rs_Yflip (nm_e ⟨rs_tr (rs_v2 hr), rs_Yflip (nm_e ⟨rs_tr (rs_v3 hr), rs_Yflip (nm_e ⟨rs_tr (rs_v0 hr), ?_⟩)⟩)⟩)⟩
  rw [f1, f2, f3, rs_c0 hr, rs_c1 hr, rs_c2 hr, rs_c3 hr, rs_xu hu g2, rs_xu hv g3, rs_xu (rs_pmm hu hv) g4, rs_to]
  refine rs_Ys4 (rs_pbb hu hv g1 g2 g3 g4) ?_
  unfold rs_cn at h
  rw [rs_sgle]
  refine br_c (fun k => nm_e ?_) (fun k => nm_e (nm_e ?_))
  · rw [if_pos k] at h; exact h
  · rw [if_neg k] at h; exact h
theorem rs_Ypos {post : Int32 → Prop} {P : Nat → Int32} {M T C : Nat → Int64} {r : Nat} (hI : rs_Inv P) (hr : r < 6)
    (h : post (rs_cn (rs_cn (rs_cn (rs_cn 0 (rs_V (P (5 * r)).toInt (1 * (P (5 * r + 1)).toInt) (1 * (P (5 * r + 2)).toInt) (1 * 1 * (P (5 * r + 3)).toInt))) (rs_V (P (5 * r)).toInt (-1 * (P (5 * r + 1)).toInt) (1 * (P (5 * r + 2)).toInt) (-1 * 1 * (P (5 * r + 3)).toInt))) (rs_V (P (5 * r)).toInt (1 * (P (5 * r + 1)).toInt) (-1 * (P (5 * r + 2)).toInt) (1 * -1 * (P (5 * r + 3)).toInt))) (rs_V (P (5 * r)).toInt (-1 * (P (5 * r + 1)).toInt) (-1 * (P (5 * r + 2)).toInt) (-1 * -1 * (P (5 * r + 3)).toInt)))) :
    wY_positive_15 post (nI r) P M T C 5 0 0 := by
  refine rs_Y15 hI hr 0 1 1 (Or.inl rfl) (Or.inl rfl) (by decide) (by decide) (by decide) rs_n40 ?_
  rw [rs_a0]
  refine rs_Y15 hI hr 1 (-1) 1 (Or.inr rfl) (Or.inl rfl) (by decide) (by decide) (by decide) rs_n41 ?_
  rw [rs_a1]
  refine rs_Y15 hI hr 2 1 (-1) (Or.inl rfl) (Or.inr rfl) (by decide) (by decide) (by decide) rs_n42 ?_
  rw [rs_a2]
  refine rs_Y15 hI hr 3 (-1) (-1) (Or.inr rfl) (Or.inr rfl) (by decide) (by decide) (by decide) rs_n43 ?_
  rw [rs_a3]
  exact br_t rs_y44 h
theorem i_vc_positive {k : Nat} {u : SX} {v : SY} (I : i_Rel k u v) (hk : k + 4 ≤ 2048) (v1 : Int32) : wpX_positive (fun r u' => wpY_positive (fun r' => r' = r ∧ i_Rel (k + 4) u' v) v v1) u v1 := by
  obtain ⟨a, b, c, d, m, p, q, P⟩ := u
  obtain ⟨P', M, T, C⟩ := v
  have e : P = P' := I.1
  have hI : rs_Inv P' := I.2
  subst e
  unfold wpX_positive
  dsimp only
  rcases rs_reg v1 with ⟨r, hr, rfl⟩ | hb
  · have g := hI r hr
    refine rs_Xg hr (br_t rfl (rs_Xload hr ⟨5, ?_⟩))
    refine rs_Xpos g.1 g.2.1 g.2.2.1 g.2.2.2.1 (fun p' q' => ?_)
    unfold wpY_positive
    dsimp only
    refine rs_Yg hr (br_f rs_01 ⟨5, ?_⟩)
    exact rs_Ypos hI hr ⟨rfl, rs_rel hI⟩
  · refine rs_Xb hb (br_f rs_01 ?_)
    unfold wpY_positive
    dsimp only
    exact rs_Yb hb (br_t rfl ⟨rfl, rs_rel hI⟩)
/-! degree -/
theorem rs_neg0 {X : Int32} (hx : rs_bd X.toInt) (h : X * 1 = X * -1) : X = 0 := by
  rw [rs_Im1, rs_Ip1, ← rs_II X, rs_Imul, rs_Imul] at h
  have h2 := congrArg Int32.toInt h
  have h3 := hx.1
  have h4 := hx.2
  rw [rs_Iti (by omega) (by omega), rs_Iti (by omega) (by omega)] at h2
  rw [← rs_II X, show X.toInt = 0 by omega]
  rfl
theorem rs_flx {X : Int32} (hx : rs_bd X.toInt) (k w o : Int32) : X * rs_fl k w = X * rs_fl k o ↔ (X = 0 ∨ rs_fl k w = rs_fl k o) := by
  constructor
  · intro h
    rcases rs_fl_pm k w with e | e <;> rcases rs_fl_pm k o with f | f
    · exact Or.inr (e.trans f.symm)
    · rw [e, f] at h; exact Or.inl (rs_neg0 hx h)
    · rw [e, f] at h; exact Or.inl (rs_neg0 hx h.symm)
    · exact Or.inr (e.trans f.symm)
  · intro h
    rcases h with h | h
    · rw [h, Int32.zero_mul, Int32.zero_mul]
    · rw [h]
def rs_sm (zb zc zd : Bool) (w o : Int32) : Bool := (zb || decide (rs_fl 1 w = rs_fl 1 o)) && (zc || decide (rs_fl 2 w = rs_fl 2 o)) && (zd || decide (rs_fl 3 w = rs_fl 3 o))
theorem rs_Ysame {post : Int32 → Prop} {P : Nat → Int32} {M T C : Nat → Int64} {r : Nat} (hI : rs_Inv P) (hr : r < 6) {w o : Int32}
    (h : post (if rs_sm (decide (P (5 * r + 1) = 0)) (decide (P (5 * r + 2) = 0)) (decide (P (5 * r + 3) = 0)) w o = true then 1 else 0)) : wpY_isSame post (P, M, T, C) (nI r) w o := by
  obtain ⟨g1, g2, g3, g4, g5, g6, g7⟩ := hI r hr
  refine ⟨4, ?_⟩
  refine br_f rs_n41 ⟨rs_tr (rs_v1 hr), rs_Yflip ⟨rs_tr (rs_v1 hr), rs_Yflip ?_⟩⟩
  rw [rs_c1 hr, rs_flx g2]
  refine br_c (fun k1 => nm_r rs_a1 ?_) (fun k1 => ?_)
  · refine br_f rs_n42 ⟨rs_tr (rs_v2 hr), rs_Yflip ⟨rs_tr (rs_v2 hr), rs_Yflip ?_⟩⟩
    rw [rs_c2 hr, rs_flx g3]
    refine br_c (fun k2 => nm_r rs_a2 ?_) (fun k2 => ?_)
    · refine br_f rs_n43 ⟨rs_tr (rs_v3 hr), rs_Yflip ⟨rs_tr (rs_v3 hr), rs_Yflip ?_⟩⟩
      rw [rs_c3 hr, rs_flx g4]
      refine br_c (fun k3 => nm_r rs_a3 (br_t rs_y44 ?_)) (fun k3 => ?_)
      · rw [if_pos (by simp only [rs_sm, Bool.and_eq_true, Bool.or_eq_true, decide_eq_true_eq]; exact ⟨⟨k1, k2⟩, k3⟩)] at h; exact h
      · rw [if_neg (by simp only [rs_sm, Bool.and_eq_true, Bool.or_eq_true, decide_eq_true_eq]; exact fun z => k3 z.2)] at h; exact h
    · rw [if_neg (by simp only [rs_sm, Bool.and_eq_true, Bool.or_eq_true, decide_eq_true_eq]; exact fun z => k2 z.1.2)] at h; exact h
  · rw [if_neg (by simp only [rs_sm, Bool.and_eq_true, Bool.or_eq_true, decide_eq_true_eq]; exact fun z => k1 z.1.1)] at h; exact h
def rs_nf (zb zc zd : Bool) (w o x : Int32) : Int32 := if x = 0 then 0 else if rs_sm zb zc zd w o = true then 0 else 1
theorem rs_Y26 {post : Int32 → Prop} {J : Int32 → Int32 → Prop} {P : Nat → Int32} {M T C : Nat → Int64} {r n : Nat} (hI : rs_Inv P) (hr : r < 6) {x2 x3 x4 x5 : Int32} (hx : ¬ x3 ≤ x5)
    (h : wY_degree_26 post J (nI r) x2 x3 P M T C n (rs_nf (decide (P (5 * r + 1) = 0)) (decide (P (5 * r + 2) = 0)) (decide (P (5 * r + 3) = 0)) x3 x5 x4) (x5 + 1)) :
    wY_degree_26 post J (nI r) x2 x3 P M T C (n + 1) x4 x5 := by
  unfold rs_nf at h
  refine br_f hx (br_c (fun k => nm_e ?_) (fun k => rs_Ysame hI hr ?_))
  · rw [if_pos k] at h; exact h
  · rw [if_neg k] at h
    by_cases s : rs_sm (decide (P (5 * r + 1) = 0)) (decide (P (5 * r + 2) = 0)) (decide (P (5 * r + 3) = 0)) x3 x5 = true
    · rw [if_pos s] at h ⊢
      exact br_f rs_01 (nm_e h)
    · rw [if_neg s] at h ⊢
      exact br_t rfl (nm_e h)
def rs_nx (x y : Int32) : Int32 := if x = 0 then y else y + 1
theorem rs_Y26x {post : Int32 → Prop} {J : Int32 → Int32 → Prop} {P : Nat → Int32} {M T C : Nat → Int64} {n : Nat} {x1 x2 x3 x4 x5 : Int32} (hx : x3 ≤ x5)
    (h : J (rs_nx x4 x2) (x3 + 1)) : wY_degree_26 post J x1 x2 x3 P M T C (n + 1) x4 x5 := by
  unfold rs_nx at h
  refine br_t hx (br_c (fun k => nm_e ?_) (fun k => nm_e (nm_e ?_)))
  · rw [if_pos k] at h; exact h
  · rw [if_neg k] at h; exact h
def rs_dgY (zb zc zd : Bool) : Int32 :=
  rs_nx (rs_nf zb zc zd 3 2 (rs_nf zb zc zd 3 1 (rs_nf zb zc zd 3 0 1))) (rs_nx (rs_nf zb zc zd 2 1 (rs_nf zb zc zd 2 0 1)) (rs_nx (rs_nf zb zc zd 1 0 1) (rs_nx 1 0)))
theorem rs_Ydeg {post : Int32 → Prop} {P : Nat → Int32} {M T C : Nat → Int64} {r : Nat} (hI : rs_Inv P) (hr : r < 6)
    (h : post (rs_dgY (decide (P (5 * r + 1) = 0)) (decide (P (5 * r + 2) = 0)) (decide (P (5 * r + 3) = 0)))) : wY_degree_15 post (nI r) P M T C 5 0 0 := by
  refine br_f rs_n40 ⟨1, rs_Y26x (by decide) ?_⟩
  rw [rs_a0]
  refine br_f rs_n41 ⟨2, rs_Y26 hI hr (by decide) ?_⟩
  rw [rs_a0]
  refine rs_Y26x (by decide) ?_
  rw [rs_a1]
  refine br_f rs_n42 ⟨3, rs_Y26 hI hr (by decide) ?_⟩
  rw [rs_a0]
  refine rs_Y26 hI hr (by decide) ?_
  rw [rs_a1]
  refine rs_Y26x (by decide) ?_
  rw [rs_a2]
  refine br_f rs_n43 ⟨4, rs_Y26 hI hr (by decide) ?_⟩
  rw [rs_a0]
  refine rs_Y26 hI hr (by decide) ?_
  rw [rs_a1]
  refine rs_Y26 hI hr (by decide) ?_
  rw [rs_a2]
  refine rs_Y26x (by decide) ?_
  rw [rs_a3]
  exact br_t rs_y44 h
def rs_kd (z : Bool) (x : Int32) : Int32 := if z = true then x else x + 1
def rs_dgX (zb zc zd : Bool) : Int32 := if rs_kd zd (rs_kd zc (rs_kd zb 0)) = 0 then 1 else if rs_kd zd (rs_kd zc (rs_kd zb 0)) = 1 then 2 else 4
theorem rs_dgE (zb zc zd : Bool) : rs_dgY zb zc zd = rs_dgX zb zc zd := by
  cases zb <;> cases zc <;> cases zd <;> decide
theorem rs_X15 {post : Int32 → Prop} {a b c d m p q : Int64} {P : Nat → Int32} {r n j : Nat} {x2 x3 : Int32} (hx : ¬ 4 ≤ x3) (hv : vp_in (5 * nI r + x3) 30) (hc : (5 * nI r + x3).toNatClampNeg = j)
    (h : wX_degree_15 post (nI r) a b c d m p q P n (rs_kd (decide (P j = 0)) x2) (x3 + 1)) : wX_degree_15 post (nI r) a b c d m p q P (n + 1) x2 x3 := by
  subst hc
  unfold rs_kd at h
  refine br_f hx ⟨hv, br_c (fun k => nm_e ?_) (fun k => nm_e (nm_e ?_))⟩
  · rw [if_pos (decide_eq_true k)] at h; exact h
  · rw [if_neg (by rw [decide_eq_true_eq]; exact k)] at h; exact h
theorem rs_Xdeg {post : Int32 → Prop} {a b c d m p q : Int64} {P : Nat → Int32} {r : Nat} (hr : r < 6)
    (h : post (rs_dgX (decide (P (5 * r + 1) = 0)) (decide (P (5 * r + 2) = 0)) (decide (P (5 * r + 3) = 0)))) : wX_degree_15 post (nI r) a b c d m p q P 4 0 1 := by
  refine rs_X15 rs_n41 (rs_tr (rs_v1 hr)) (rs_c1 hr) ?_
  rw [rs_a1]
  refine rs_X15 rs_n42 (rs_tr (rs_v2 hr)) (rs_c2 hr) ?_
  rw [rs_a2]
  refine rs_X15 rs_n43 (rs_tr (rs_v3 hr)) (rs_c3 hr) ?_
  rw [rs_a3]
  unfold rs_dgX at h
  refine br_t rs_y44 (br_c (fun k => ?_) (fun k => br_c (fun k2 => ?_) (fun k2 => ?_)))
  · rw [if_pos k] at h; exact h
  · rw [if_neg k, if_pos k2] at h; exact h
  · rw [if_neg k, if_neg k2] at h; exact h
theorem i_vc_degree {k : Nat} {u : SX} {v : SY} (I : i_Rel k u v) (hk : k + 4 ≤ 2048) (v1 : Int32) : wpX_degree (fun r => wpY_degree (fun r' => r' = r ∧ i_Rel (k + 4) u v) v v1) u v1 := by
  obtain ⟨a, b, c, d, m, p, q, P⟩ := u
  obtain ⟨P', M, T, C⟩ := v
  have e : P = P' := I.1
  have hI : rs_Inv P' := I.2
  subst e
  unfold wpX_degree
  dsimp only
  rcases rs_reg v1 with ⟨r, hr, rfl⟩ | hb
  · refine rs_Xg hr (br_t rfl ⟨4, rs_Xdeg hr ?_⟩)
    unfold wpY_degree
    dsimp only
    refine rs_Yg hr (br_f rs_01 ⟨5, ?_⟩)
    exact rs_Ydeg hI hr ⟨rs_dgE _ _ _, rs_rel hI⟩
  · refine rs_Xb hb (br_f rs_01 ?_)
    unfold wpY_degree
    dsimp only
    exact rs_Yb hb (br_t rfl ⟨rfl, rs_rel hI⟩)
end
section
/-! ranked: the order is total, so the ranks are 0 .. 5, each once -/
def rs_T (P : Nat → Int32) (s r : Nat) : Bool := decide (rs_D P s r < 0 ∨ (rs_D P s r = 0 ∧ s < r))
theorem rs_T_iff {P : Nat → Int32} {s r : Nat} : rs_T P s r = true ↔ (rs_D P s r < 0 ∨ (rs_D P s r = 0 ∧ s < r)) := by
  unfold rs_T
  rw [decide_eq_true_eq]
theorem rs_D_neg (P : Nat → Int32) (r s : Nat) : rs_D P r s = -rs_D P s r := by
  unfold rs_D
  rw [Int.mul_comm (rs_RV P s), Int.mul_comm (rs_Rm P s) (rs_RV P r)]
  omega
theorem rs_D_tr (P : Nat → Int32) (s r t : Nat) : rs_D P s t * rs_Rm P r = rs_D P s r * rs_Rm P t + rs_Rm P s * rs_D P r t := by
  unfold rs_D
  grind
theorem rs_mp {P : Nat → Int32} (hI : rs_Inv P) {r : Nat} (hr : r < 6) : 0 < rs_Rm P r := by
  have := (hI r hr).2.2.2.2.1
  unfold rs_Rm
  omega
theorem rs_nonpos {x y : Int} (hx : x ≤ 0) (hy : 0 < y) : x * y ≤ 0 := by
  have := Int.mul_le_mul_of_nonneg_right hx (Int.le_of_lt hy)
  rw [Int.zero_mul] at this
  exact this
theorem rs_T_tr {P : Nat → Int32} (hI : rs_Inv P) {s r t : Nat} (hs : s < 6) (hr : r < 6) (ht : t < 6) (h1 : rs_T P s r = true) (h2 : rs_T P r t = true) : rs_T P s t = true := by
  rw [rs_T_iff] at h1 h2 ⊢
  have id := rs_D_tr P s r t
  have ms := rs_mp hI hs
  have mr := rs_mp hI hr
  have mt := rs_mp hI ht
  rw [Int.mul_comm (rs_Rm P s)] at id
  rcases h1 with a | ⟨a, a'⟩
  · have k1 := Int.mul_neg_of_neg_of_pos a mt
    have k2 : rs_D P r t * rs_Rm P s ≤ 0 := rs_nonpos (by omega) ms
    exact Or.inl (rs_pn mr (by omega))
  · rcases h2 with b | ⟨b, b'⟩
    · have k2 := Int.mul_neg_of_neg_of_pos b ms
      rw [a, Int.zero_mul] at id
      exact Or.inl (rs_pn mr (by omega))
    · rw [a, b, Int.zero_mul, Int.zero_mul] at id
      rcases Int.mul_eq_zero.mp id with z | z
      · exact Or.inr ⟨z, by omega⟩
      · omega
theorem rs_T_irr {P : Nat → Int32} {r : Nat} : ¬ rs_T P r r = true := by
  rw [rs_T_iff]
  have := rs_D_neg P r r
  omega
theorem rs_T_tot {P : Nat → Int32} {r s : Nat} (h : r ≠ s) : rs_T P r s = true ∨ rs_T P s r = true := by
  rw [rs_T_iff, rs_T_iff]
  have := rs_D_neg P r s
  omega
/-- how many registers below n stand before r -/
def rs_bf (P : Nat → Int32) (r : Nat) : Nat → Nat
  | 0 => 0
  | s + 1 => if rs_T P s r = true then rs_bf P r s + 1 else rs_bf P r s
theorem rs_bf_le (P : Nat → Int32) (r : Nat) : ∀ n, rs_bf P r n ≤ n := by
  intro n
  induction n with
  | zero => exact Nat.le_refl 0
  | succ n ih =>
    unfold rs_bf
    split <;> omega
theorem rs_bf_lt (P : Nat → Int32) (r : Nat) : ∀ n, r < n → rs_bf P r n < n := by
  intro n
  induction n with
  | zero => intro h; omega
  | succ n ih =>
    intro h
    unfold rs_bf
    by_cases e : r = n
    · subst e
      rw [if_neg rs_T_irr]
      have := rs_bf_le P r r
      omega
    · have := ih (by omega)
      split <;> omega
theorem rs_bf_mono {P : Nat → Int32} (hI : rs_Inv P) {r t : Nat} (hr : r < 6) (ht : t < 6) (h : rs_T P r t = true) : ∀ n, n ≤ 6 → rs_bf P r n ≤ rs_bf P t n ∧ (r < n → rs_bf P r n < rs_bf P t n) := by
  intro n
  induction n with
  | zero => intro _; exact ⟨Nat.le_refl 0, fun k => by omega⟩
  | succ n ih =>
    intro hn
    have i := ih (by omega)
    unfold rs_bf
    by_cases e : r = n
    · subst e
      rw [if_neg rs_T_irr, if_pos h]
      exact ⟨by omega, fun _ => by omega⟩
    · by_cases k : rs_T P n r = true
      · rw [if_pos k, if_pos (rs_T_tr hI (by omega) hr ht k h)]
        exact ⟨by omega, fun z => by have := i.2 (by omega); omega⟩
      · rw [if_neg k]
        split
        · exact ⟨by omega, fun z => by have := i.2 (by omega); omega⟩
        · exact ⟨by omega, fun z => by have := i.2 (by omega); omega⟩
theorem rs_bf_inj {P : Nat → Int32} (hI : rs_Inv P) {r t : Nat} (hr : r < 6) (ht : t < 6) (h : rs_bf P r 6 = rs_bf P t 6) : r = t := by
  apply Classical.byContradiction
  intro n
  rcases rs_T_tot (P := P) n with k | k
  · have := (rs_bf_mono hI hr ht k 6 (Nat.le_refl 6)).2 hr
    omega
  · have := (rs_bf_mono hI ht hr k 6 (Nat.le_refl 6)).2 ht
    omega
/-- six different numbers below 6 are all of them -/
theorem rs_six {f : Nat → Nat} (hl : ∀ r, r < 6 → f r < 6) (hi : ∀ r t, r < 6 → t < 6 → f r = f t → r = t) {k : Nat} (hk : k < 6) : ∃ r, r < 6 ∧ f r = k := by
  apply Classical.byContradiction
  intro n
  have N : ∀ r, r < 6 → f r ≠ k := fun r hr e => n ⟨r, hr, e⟩
  have l0 := hl 0 (by omega)
  have l1 := hl 1 (by omega)
  have l2 := hl 2 (by omega)
  have l3 := hl 3 (by omega)
  have l4 := hl 4 (by omega)
  have l5 := hl 5 (by omega)
  have n0 := N 0 (by omega)
  have n1 := N 1 (by omega)
  have n2 := N 2 (by omega)
  have n3 := N 3 (by omega)
  have n4 := N 4 (by omega)
  have n5 := N 5 (by omega)
  have i01 : f 0 ≠ f 1 := fun e => absurd (hi 0 1 (by omega) (by omega) e) (by decide)
  have i02 : f 0 ≠ f 2 := fun e => absurd (hi 0 2 (by omega) (by omega) e) (by decide)
  have i03 : f 0 ≠ f 3 := fun e => absurd (hi 0 3 (by omega) (by omega) e) (by decide)
  have i04 : f 0 ≠ f 4 := fun e => absurd (hi 0 4 (by omega) (by omega) e) (by decide)
  have i05 : f 0 ≠ f 5 := fun e => absurd (hi 0 5 (by omega) (by omega) e) (by decide)
  have i12 : f 1 ≠ f 2 := fun e => absurd (hi 1 2 (by omega) (by omega) e) (by decide)
  have i13 : f 1 ≠ f 3 := fun e => absurd (hi 1 3 (by omega) (by omega) e) (by decide)
  have i14 : f 1 ≠ f 4 := fun e => absurd (hi 1 4 (by omega) (by omega) e) (by decide)
  have i15 : f 1 ≠ f 5 := fun e => absurd (hi 1 5 (by omega) (by omega) e) (by decide)
  have i23 : f 2 ≠ f 3 := fun e => absurd (hi 2 3 (by omega) (by omega) e) (by decide)
  have i24 : f 2 ≠ f 4 := fun e => absurd (hi 2 4 (by omega) (by omega) e) (by decide)
  have i25 : f 2 ≠ f 5 := fun e => absurd (hi 2 5 (by omega) (by omega) e) (by decide)
  have i34 : f 3 ≠ f 4 := fun e => absurd (hi 3 4 (by omega) (by omega) e) (by decide)
  have i35 : f 3 ≠ f 5 := fun e => absurd (hi 3 5 (by omega) (by omega) e) (by decide)
  have i45 : f 4 ≠ f 5 := fun e => absurd (hi 4 5 (by omega) (by omega) e) (by decide)
  have nd : [k, f 0, f 1, f 2, f 3, f 4, f 5].Nodup := by
    simp only [List.nodup_cons, List.mem_cons, List.not_mem_nil, or_false, not_or, not_false_eq_true, List.nodup_nil, and_true]
    exact ⟨⟨n0.symm, n1.symm, n2.symm, n3.symm, n4.symm, n5.symm⟩, ⟨i01, i02, i03, i04, i05⟩, ⟨i12, i13, i14, i15⟩, ⟨i23, i24, i25⟩, ⟨i34, i35⟩, i45⟩
  have cv := covers_all 6 [f 0, f 1, f 2, f 3, f 4, f 5] (List.nodup_cons.mp nd).2 (by
    intro x hx
    simp only [List.mem_cons, List.not_mem_nil, or_false] at hx
    omega) rfl k hk
  exact (List.nodup_cons.mp nd).1 cv
end
section
/-! ranked: the walks -/
theorem rs_bfs {P : Nat → Int32} {r s : Nat} (h : rs_T P s r = true) : rs_bf P r (s + 1) = rs_bf P r s + 1 := if_pos h
theorem rs_bfn {P : Nat → Int32} {r s : Nat} (h : ¬ rs_T P s r = true) : rs_bf P r (s + 1) = rs_bf P r s := if_neg h
theorem rs_X29 {post : Int32 → SX → Prop} {J : Int32 → Int32 → Int64 → Int64 → Int64 → Int64 → Int64 → Int64 → Int64 → (Nat → Int32) → Prop} {P : Nat → Int32} {r : Nat} (hI : rs_Inv P) (hr : r < 6) {x1 x2 : Int32}
    (h1 : nI (rs_bf P r 6) = x1 → ∀ a b c d m p q, J (nI r) (nI (r + 1)) a b c d m p q P) (h2 : ¬ nI (rs_bf P r 6) = x1 → ∀ a b c d m p q, J x2 (nI (r + 1)) a b c d m p q P) :
    ∀ (t s fuel : Nat) (a b c d m p q : Int64), s + t = 6 → t < fuel → wX_ranked_29 post J x1 x2 (nI r) fuel (nI (rs_bf P r s)) (nI s) a b c d m p q P := by
  intro t
  induction t with
  | zero =>
    intro s fuel a b c d m p q hs hf
    obtain ⟨fuel, rfl⟩ : ∃ k, fuel = k + 1 := ⟨fuel - 1, by omega⟩
    have e : s = 6 := by omega
    subst e
    exact br_t (nI_le (a := 6) (Nat.le_refl 6) (by decide)) (br_c (fun k => nm_r (nI_1 r) (h1 k _ _ _ _ _ _ _)) (fun k => nm_r (nI_1 r) (h2 k _ _ _ _ _ _ _)))
  | succ t ih =>
    intro s fuel a b c d m p q hs hf
    obtain ⟨fuel, rfl⟩ : ∃ k, fuel = k + 1 := ⟨fuel - 1, by omega⟩
    refine br_f (nI_ge (b := 6) (by omega) (by decide)) (rs_Xcmp hI (by omega) hr (fun y1 y2 y3 y4 y5 y6 y7 => ?_))
    have I := ih (s + 1) fuel y1 y2 y3 y4 y5 y6 y7 (by omega) (by omega)
    dsimp only
    rw [rs_sglt, rs_sgeq]
    refine br_c (fun k1 => nm_r (nI_1 _) (nm_r (nI_1 s) ?_)) (fun k1 => br_c (fun k2 => br_c (fun k3 => nm_r (nI_1 s) ?_) (fun k3 => nm_r (nI_1 _) (nm_r (nI_1 s) ?_))) (fun k2 => nm_r (nI_1 s) ?_))
    · rw [rs_bfs (rs_T_iff.mpr (Or.inl k1))] at I; exact I
    · rw [nI_leI (by omega) (by omega)] at k3
      rw [rs_bfn (by rw [rs_T_iff]; omega)] at I; exact I
    · rw [nI_leI (by omega) (by omega)] at k3
      rw [rs_bfs (rs_T_iff.mpr (Or.inr ⟨k2, by omega⟩))] at I; exact I
    · rw [rs_bfn (by rw [rs_T_iff]; omega)] at I; exact I
theorem rs_X17 {post : Int32 → SX → Prop} {P : Nat → Int32} (hI : rs_Inv P) {k r0 : Nat} (h0 : r0 < 6) (hk : rs_bf P r0 6 = k) (h : ∀ a b c d m p q, post (nI r0) (a, b, c, d, m, p, q, P)) :
    ∀ (t r fuel : Nat) (x2 : Int32) (a b c d m p q : Int64), r + t = 6 → t < fuel → (r0 < r → x2 = nI r0) → wX_ranked_17 post (nI k) fuel x2 (nI r) a b c d m p q P := by
  have kl : k < 6 := hk ▸ rs_bf_lt P r0 6 h0
  intro t
  induction t with
  | zero =>
    intro r fuel x2 a b c d m p q hs hf hx
    obtain ⟨fuel, rfl⟩ : ∃ k, fuel = k + 1 := ⟨fuel - 1, by omega⟩
    have e : r = 6 := by omega
    subst e
    rw [hx h0]
    exact br_t (nI_le (a := 6) (Nat.le_refl 6) (by decide)) (h _ _ _ _ _ _ _)
  | succ t ih =>
    intro r fuel x2 a b c d m p q hs hf hx
    obtain ⟨fuel, rfl⟩ : ∃ k, fuel = k + 1 := ⟨fuel - 1, by omega⟩
    have hr : r < 6 := by omega
    have bl := rs_bf_lt P r 6 hr
    refine br_f (nI_ge (b := 6) (by omega) (by decide)) ⟨7, rs_X29 hI hr (fun e => ?_) (fun e => ?_) 6 0 7 a b c d m p q (by omega) (by omega)⟩
    · rw [nI_eq (by omega) (by omega)] at e
      have er := rs_bf_inj hI hr h0 (e.trans hk.symm)
      intro a b c d m p q
      exact ih (r + 1) fuel _ a b c d m p q (by omega) (by omega) (fun _ => by rw [er])
    · have ne : r ≠ r0 := fun z => e (by rw [z, hk])
      intro a b c d m p q
      exact ih (r + 1) fuel _ a b c d m p q (by omega) (by omega) (fun z => hx (by omega))
theorem rs_Y13 {post : Int32 → SY → Prop} {J : Int32 → (Nat → Int32) → (Nat → Int64) → (Nat → Int64) → (Nat → Int64) → Prop} {P : Nat → Int32} {T C : Nat → Int64} {r : Nat} (hI : rs_Inv P) (hr : r < 6) {x1 : Int32}
    (h1 : nI (rs_bf P r 6) = x1 → ∀ M, post (nI r) (P, M, T, C)) (h2 : ¬ nI (rs_bf P r 6) = x1 → ∀ M, J (nI (r + 1)) P M T C) :
    ∀ (t s fuel : Nat) (M : Nat → Int64), s + t = 6 → t < fuel → wY_ranked_13 post J x1 (nI r) fuel (nI (rs_bf P r s)) (nI s) P M T C := by
  intro t
  induction t with
  | zero =>
    intro s fuel M hs hf
    obtain ⟨fuel, rfl⟩ : ∃ k, fuel = k + 1 := ⟨fuel - 1, by omega⟩
    have e : s = 6 := by omega
    subst e
    exact br_t (nI_le (a := 6) (Nat.le_refl 6) (by decide)) (br_c (fun k => h1 k M) (fun k => nm_r (nI_1 r) (h2 k M)))
  | succ t ih =>
    intro s fuel M hs hf
    obtain ⟨fuel, rfl⟩ : ∃ k, fuel = k + 1 := ⟨fuel - 1, by omega⟩
    refine br_f (nI_ge (b := 6) (by omega) (by decide)) (rs_Yord hI (by omega) hr (fun M' => ?_))
    have I := ih (s + 1) fuel M' (by omega) (by omega)
    dsimp only
    rw [rs_sglt, rs_sgeq]
    refine br_c (fun k1 => nm_r (nI_1 _) (nm_r (nI_1 s) ?_)) (fun k1 => br_c (fun k2 => br_c (fun k3 => nm_r (nI_1 s) ?_) (fun k3 => nm_r (nI_1 _) (nm_r (nI_1 s) ?_))) (fun k2 => nm_r (nI_1 s) ?_))
    · rw [rs_bfs (rs_T_iff.mpr (Or.inl k1))] at I; exact I
    · rw [nI_leI (by omega) (by omega)] at k3
      rw [rs_bfn (by rw [rs_T_iff]; omega)] at I; exact I
    · rw [nI_leI (by omega) (by omega)] at k3
      rw [rs_bfs (rs_T_iff.mpr (Or.inr ⟨k2, by omega⟩))] at I; exact I
    · rw [rs_bfn (by rw [rs_T_iff]; omega)] at I; exact I
theorem rs_Y2 {post : Int32 → SY → Prop} {P : Nat → Int32} {T C : Nat → Int64} (hI : rs_Inv P) {k r0 : Nat} (h0 : r0 < 6) (hk : rs_bf P r0 6 = k) (h : ∀ M, post (nI r0) (P, M, T, C)) :
    ∀ (t r fuel : Nat) (M : Nat → Int64), r + t = r0 → t + 1 < fuel → wY_ranked_2 post (nI k) fuel (nI r) P M T C := by
  have kl : k < 6 := hk ▸ rs_bf_lt P r0 6 h0
  intro t
  induction t with
  | zero =>
    intro r fuel M hs hf
    obtain ⟨fuel, rfl⟩ : ∃ k, fuel = k + 1 := ⟨fuel - 1, by omega⟩
    have e : r = r0 := by omega
    subst e
    refine br_f (nI_ge (b := 6) (by omega) (by decide)) ⟨7, rs_Y13 hI h0 (fun _ => h) (fun n => absurd (by rw [hk]) n) 6 0 7 M (by omega) (by omega)⟩
  | succ t ih =>
    intro r fuel M hs hf
    obtain ⟨fuel, rfl⟩ : ∃ k, fuel = k + 1 := ⟨fuel - 1, by omega⟩
    have hr : r < 6 := by omega
    have bl := rs_bf_lt P r 6 hr
    refine br_f (nI_ge (b := 6) (by omega) (by decide)) ⟨7, rs_Y13 hI hr (fun e => ?_) (fun e => ?_) 6 0 7 M (by omega) (by omega)⟩
    · rw [nI_eq (by omega) (by omega)] at e
      have er := rs_bf_inj hI hr h0 (e.trans hk.symm)
      omega
    · intro M'
      exact ih (r + 1) fuel M' (by omega) (by omega)
theorem rs_Y2b {post : Int32 → SY → Prop} {P : Nat → Int32} {T C : Nat → Int64} (hI : rs_Inv P) {x : Int32} (hx : rs_bad x) (h : ∀ M, post (-1000000) (P, M, T, C)) :
    ∀ (t r fuel : Nat) (M : Nat → Int64), r + t = 6 → t < fuel → wY_ranked_2 post x fuel (nI r) P M T C := by
  intro t
  induction t with
  | zero =>
    intro r fuel M hs hf
    obtain ⟨fuel, rfl⟩ : ∃ k, fuel = k + 1 := ⟨fuel - 1, by omega⟩
    have e : r = 6 := by omega
    subst e
    exact br_t (nI_le (a := 6) (Nat.le_refl 6) (by decide)) (h M)
  | succ t ih =>
    intro r fuel M hs hf
    obtain ⟨fuel, rfl⟩ : ∃ k, fuel = k + 1 := ⟨fuel - 1, by omega⟩
    have hr : r < 6 := by omega
    have bl := rs_bf_lt P r 6 hr
    refine br_f (nI_ge (b := 6) (by omega) (by decide)) ⟨7, rs_Y13 hI hr (fun e => ?_) (fun e => ?_) 6 0 7 M (by omega) (by omega)⟩
    · subst e
      rcases hx with z | z
      · exact absurd z (nI_pos (by omega))
      · exact absurd (nI_lt (b := 6) bl (by decide)) z
    · intro M'
      exact ih (r + 1) fuel M' (by omega) (by omega)
theorem i_vc_ranked {k : Nat} {u : SX} {v : SY} (I : i_Rel k u v) (hk : k + 4 ≤ 2048) (v1 : Int32) : wpX_ranked (fun r u' => wpY_ranked (fun r' v' => r' = r ∧ i_Rel (k + 4) u' v') v v1) u v1 := by
  obtain ⟨a, b, c, d, m, p, q, P⟩ := u
  obtain ⟨P', M, T, C⟩ := v
  have e : P = P' := I.1
  have hI : rs_Inv P' := I.2
  subst e
  rcases rs_reg v1 with ⟨j, hj, rfl⟩ | hb
  · obtain ⟨r0, h0, hk0⟩ := rs_six (f := fun r => rs_bf P r 6) (fun r hr => rs_bf_lt P r 6 hr) (fun r t hr ht e => rs_bf_inj hI hr ht e) hj
    refine br_f (nI_pos (by omega)) (br_t (nI_lt (b := 6) hj (by decide)) ⟨7, rs_X17 hI h0 hk0 (fun a b c d m p q => ?_) 6 0 7 0 a b c d m p q (by omega) (by omega) (fun z => by omega)⟩)
    exact ⟨r0 + 2, rs_Y2 hI h0 hk0 (fun M' => ⟨rfl, rs_rel hI⟩) r0 0 (r0 + 2) M (by omega) (by omega)⟩
  · have B : wpY_ranked (fun r' v' => r' = -1000000 ∧ i_Rel (k + 4) (a, b, c, d, m, p, q, P) v') (P, M, T, C) v1 :=
      ⟨7, rs_Y2b hI hb (fun M' => ⟨rfl, rs_rel hI⟩) 6 0 7 M (by omega) (by omega)⟩
    exact br_c (fun _ => B) (fun z => br_f (hb.resolve_left z) B)
end
section
/-! part, put, whole, add, subtract, conjugate -/
theorem i_vc_part {k : Nat} {u : SX} {v : SY} (I : i_Rel k u v) (hk : k + 4 ≤ 2048) (v1 : Int32) (v2 : Int32) : wpX_part (fun r => wpY_part (fun r' => r' = r ∧ i_Rel (k + 4) u v) v v1 v2) u v1 v2 := by
  obtain ⟨a, b, c, d, m, p, q, P⟩ := u
  obtain ⟨P', M, T, C⟩ := v
  have e : P = P' := I.1
  have hI : rs_Inv P' := I.2
  subst e
  unfold wpX_part
  dsimp only
  rcases rs_reg v1 with ⟨r, hr, rfl⟩ | hb
  · refine rs_Xg hr (br_t rfl (br_c (fun k1 => ?_) (fun k1 => br_c (fun k2 => ?_) (fun k2 => ?_))))
    · unfold wpY_part
      dsimp only
      exact rs_Yg hr (br_f rs_01 (br_t k1 ⟨rfl, rs_rel hI⟩))
    · obtain ⟨j, hj, rfl⟩ := nI_of2 (M := 4) (n := 4) (by decide) k1 k2
      have vi : vp_in (5 * nI r + nI j) 30 := rs_tr (rs_vk j hr (by omega))
      refine ⟨vi, ?_⟩
      unfold wpY_part
      dsimp only
      exact rs_Yg hr (br_f rs_01 (br_f k1 (br_f (nI_nlt (a := 4) hj (by decide)) ⟨vi, rfl, rs_rel hI⟩)))
    · unfold wpY_part
      dsimp only
      refine rs_Yg hr (br_f rs_01 (br_f k1 (br_t ?_ ⟨rfl, rs_rel hI⟩)))
      exact Int32.not_le.mp k2
  · refine rs_Xb hb (br_f rs_01 ?_)
    unfold wpY_part
    dsimp only
    exact rs_Yb hb (br_t rfl ⟨rfl, rs_rel hI⟩)
/-! add and subtract -/
theorem rs_Lc3 (t x n m y : Int) : rs_L x * rs_L n + rs_L t * rs_L m * rs_L y = rs_L (rs_c t x n m y) := by
  rw [rs_mul, rs_mul, rs_mul, rs_add]
  rfl
theorem rs_Xsum {post : Int32 → SX → Prop} {a b c d m p q : Int64} {P P' : Nat → Int32} {r x y : Nat} {t : Int} {s : Int64} {w : Int32} (es : s = rs_L t) (hx : x < 6) (hy : y < 6)
    (hS : ∀ (post : Int32 → SX → Prop) (p q : Int64), (∀ x1 x2 x3 x4 x5 : Int64, post w (x1, x2, x3, x4, x5, p, q, P')) → wpX_store post (rs_L (rs_c t (P (5 * x)).toInt (P (5 * y + 4)).toInt (P (5 * x + 4)).toInt (P (5 * y)).toInt), rs_L (rs_c t (P (5 * x + 1)).toInt (P (5 * y + 4)).toInt (P (5 * x + 4)).toInt (P (5 * y + 1)).toInt), rs_L (rs_c t (P (5 * x + 2)).toInt (P (5 * y + 4)).toInt (P (5 * x + 4)).toInt (P (5 * y + 2)).toInt), rs_L (rs_c t (P (5 * x + 3)).toInt (P (5 * y + 4)).toInt (P (5 * x + 4)).toInt (P (5 * y + 3)).toInt), rs_L ((P (5 * x + 4)).toInt * (P (5 * y + 4)).toInt), p, q, P) (nI r))
    (h : ∀ x1 x2 x3 x4 x5 : Int64, post w (x1, x2, x3, x4, x5, p, q, P')) : wpX_sum post (a, b, c, d, m, p, q, P) (nI r) (nI x) (nI y) s := by
  subst es
  unfold wpX_sum
  dsimp only
  refine rs_Xload hx ?_
  simp only [rs_v0 hy, rs_v1 hy, rs_v2 hy, rs_v3 hy, rs_v4 hy, rs_c0 hy, rs_c1 hy, rs_c2 hy, rs_c3 hy, rs_c4 hy, true_and, forall_eq, rs_to, rs_Lc3]
  rw [rs_mul]
  exact hS _ p q h
theorem rs_Yar {post : Int32 → Prop} {v : SY} {r x y : Nat} (hr : r < 6) (hx : x < 6) (hy : y < 6) (h : post 1) : wpY_areRegisters post v (nI r) (nI x) (nI y) := by
  obtain ⟨P, M, T, C⟩ := v
  unfold wpY_areRegisters
  dsimp only
  exact rs_Yg hr (br_f rs_01 (rs_Yg hx (br_f rs_01 (rs_Yg hy (br_f rs_01 h)))))
theorem rs_Ycomb2 {post : SY → Prop} {P : Nat → Int32} {M T C : Nat → Int64} {r s : Nat} {z : Int32} (hI : rs_Inv P) (hr : r < 6) (hs : s < 6) {t : Int} (ht : t = 1 ∨ t = -1) (ez : z = rs_I t)
    (h : ∀ M', rs_M5 M' (rs_c t (P (5 * r)).toInt (P (5 * s + 4)).toInt (P (5 * r + 4)).toInt (P (5 * s)).toInt) (rs_c t (P (5 * r + 1)).toInt (P (5 * s + 4)).toInt (P (5 * r + 4)).toInt (P (5 * s + 1)).toInt) (rs_c t (P (5 * r + 2)).toInt (P (5 * s + 4)).toInt (P (5 * r + 4)).toInt (P (5 * s + 2)).toInt) (rs_c t (P (5 * r + 3)).toInt (P (5 * s + 4)).toInt (P (5 * r + 4)).toInt (P (5 * s + 3)).toInt) ((P (5 * r + 4)).toInt * (P (5 * s + 4)).toInt) → post (P, M', T, C)) :
    wpY_combine post (P, M, T, C) (nI r) (nI s) z := by
  subst ez
  exact rs_Ycomb hI hr hs ht h
theorem rs_mm {P : Nat → Int32} {x y : Nat} (hI : rs_Inv P) (hx : x < 6) (hy : y < 6) : 1 ≤ (P (5 * x + 4)).toInt * (P (5 * y + 4)).toInt ∧ (P (5 * x + 4)).toInt * (P (5 * y + 4)).toInt ≤ 900 := by
  have bx := rs_bm hI hx
  have by' := rs_bm hI hy
  have px := (hI x hx).2.2.2.2.1
  have py := (hI y hy).2.2.2.2.1
  have := Int.mul_pos (a := (P (5 * x + 4)).toInt) (b := (P (5 * y + 4)).toInt) (by omega) (by omega)
  have := rs_mb bx.1 bx.2 by'.1 by'.2
  omega
/-- the outcome of a sum -/
theorem rs_SUM {P : Nat → Int32} {r x y : Nat} {t : Int} (hI : rs_Inv P) (hr : r < 6) (hx : x < 6) (hy : y < 6) (ht : t = 1 ∨ t = -1) :
    ∃ (w : Int32) (P' : Nat → Int32), rs_Inv P' ∧
      (∀ (post : Int32 → SX → Prop) (p q : Int64), (∀ x1 x2 x3 x4 x5 : Int64, post w (x1, x2, x3, x4, x5, p, q, P')) → wpX_store post (rs_L (rs_c t (P (5 * x)).toInt (P (5 * y + 4)).toInt (P (5 * x + 4)).toInt (P (5 * y)).toInt), rs_L (rs_c t (P (5 * x + 1)).toInt (P (5 * y + 4)).toInt (P (5 * x + 4)).toInt (P (5 * y + 1)).toInt), rs_L (rs_c t (P (5 * x + 2)).toInt (P (5 * y + 4)).toInt (P (5 * x + 4)).toInt (P (5 * y + 2)).toInt), rs_L (rs_c t (P (5 * x + 3)).toInt (P (5 * y + 4)).toInt (P (5 * x + 4)).toInt (P (5 * y + 3)).toInt), rs_L ((P (5 * x + 4)).toInt * (P (5 * y + 4)).toInt), p, q, P) (nI r)) ∧
      (∀ (post : Int32 → SY → Prop) (M T C : Nat → Int64), rs_M5 M (rs_c t (P (5 * x)).toInt (P (5 * y + 4)).toInt (P (5 * x + 4)).toInt (P (5 * y)).toInt) (rs_c t (P (5 * x + 1)).toInt (P (5 * y + 4)).toInt (P (5 * x + 4)).toInt (P (5 * y + 1)).toInt) (rs_c t (P (5 * x + 2)).toInt (P (5 * y + 4)).toInt (P (5 * x + 4)).toInt (P (5 * y + 2)).toInt) (rs_c t (P (5 * x + 3)).toInt (P (5 * y + 4)).toInt (P (5 * x + 4)).toInt (P (5 * y + 3)).toInt) ((P (5 * x + 4)).toInt * (P (5 * y + 4)).toInt) → (∀ M', post w (P', M', T, C)) → wpY_take post (P, M, T, C) (nI r)) := by
  have B := rs_cbb hI hx hy ht
  have mm := rs_mm hI hx hy
  obtain ⟨⟨a1, a2⟩, ⟨b1, b2⟩, ⟨c1, c2⟩, ⟨d1, d2⟩⟩ := B
  exact rs_ST hr hI ⟨by omega, by omega⟩ ⟨by omega, by omega⟩ ⟨by omega, by omega⟩ ⟨by omega, by omega⟩ ⟨by omega, by omega⟩ (by omega)
theorem i_vc_add {k : Nat} {u : SX} {v : SY} (I : i_Rel k u v) (hk : k + 4 ≤ 2048) (v1 : Int32) (v2 : Int32) (v3 : Int32) : wpX_add (fun r u' => wpY_add (fun r' v' => r' = r ∧ i_Rel (k + 4) u' v') v v1 v2 v3) u v1 v2 v3 := by
  obtain ⟨a, b, c, d, m, p, q, P⟩ := u
  obtain ⟨P', M, T, C⟩ := v
  have e : P = P' := I.1
  have hI : rs_Inv P' := I.2
  subst e
  unfold wpX_add
  dsimp only
  rcases rs_reg v1 with ⟨r, hr, rfl⟩ | hb
  · rcases rs_reg v2 with ⟨x, hx, rfl⟩ | hb
    · rcases rs_reg v3 with ⟨y, hy, rfl⟩ | hb
      · obtain ⟨w, P', hI', SX, SY⟩ := rs_SUM hI hr hx hy (Or.inl rfl)
        refine rs_Xg hr (br_t rfl (rs_Xg hx (br_t rfl (rs_Xg hy (br_t rfl (rs_Xsum rs_l1 hx hy SX (fun x1 x2 x3 x4 x5 => ?_)))))))
        unfold wpY_add
        dsimp only
        refine rs_Yar hr hx hy (br_f rs_01 (rs_Ycomb2 hI hx hy (Or.inl rfl) rs_Ip1 (fun M' hM => ?_)))
        exact SY _ M' T C hM (fun M'' => ⟨rfl, rs_rel hI'⟩)
      · refine rs_Xg hr (br_t rfl (rs_Xg hx (br_t rfl (rs_Xb hb (br_f rs_01 ?_)))))
        unfold wpY_add wpY_areRegisters
        dsimp only
        exact rs_Yg hr (br_f rs_01 (rs_Yg hx (br_f rs_01 (rs_Yb hb (br_t rfl (br_t rfl ⟨rfl, rs_rel hI⟩))))))
    · refine rs_Xg hr (br_t rfl (rs_Xb hb (br_f rs_01 ?_)))
      unfold wpY_add wpY_areRegisters
      dsimp only
      exact rs_Yg hr (br_f rs_01 (rs_Yb hb (br_t rfl (br_t rfl ⟨rfl, rs_rel hI⟩))))
  · refine rs_Xb hb (br_f rs_01 ?_)
    unfold wpY_add wpY_areRegisters
    dsimp only
    exact rs_Yb hb (br_t rfl (br_t rfl ⟨rfl, rs_rel hI⟩))
theorem i_vc_subtract {k : Nat} {u : SX} {v : SY} (I : i_Rel k u v) (hk : k + 4 ≤ 2048) (v1 : Int32) (v2 : Int32) (v3 : Int32) : wpX_subtract (fun r u' => wpY_subtract (fun r' v' => r' = r ∧ i_Rel (k + 4) u' v') v v1 v2 v3) u v1 v2 v3 := by
  obtain ⟨a, b, c, d, m, p, q, P⟩ := u
  obtain ⟨P', M, T, C⟩ := v
  have e : P = P' := I.1
  have hI : rs_Inv P' := I.2
  subst e
  unfold wpX_subtract
  dsimp only
  rcases rs_reg v1 with ⟨r, hr, rfl⟩ | hb
  · rcases rs_reg v2 with ⟨x, hx, rfl⟩ | hb
    · rcases rs_reg v3 with ⟨y, hy, rfl⟩ | hb
      · obtain ⟨w, P', hI', SX, SY⟩ := rs_SUM hI hr hx hy (Or.inr rfl)
        refine rs_Xg hr (br_t rfl (rs_Xg hx (br_t rfl (rs_Xg hy (br_t rfl (rs_Xsum rs_lm1 hx hy SX (fun x1 x2 x3 x4 x5 => ?_)))))))
        unfold wpY_subtract
        dsimp only
        refine rs_Yar hr hx hy (br_f rs_01 (rs_Ycomb2 hI hx hy (Or.inr rfl) rs_Im1 (fun M' hM => ?_)))
        exact SY _ M' T C hM (fun M'' => ⟨rfl, rs_rel hI'⟩)
      · refine rs_Xg hr (br_t rfl (rs_Xg hx (br_t rfl (rs_Xb hb (br_f rs_01 ?_)))))
        unfold wpY_subtract wpY_areRegisters
        dsimp only
        exact rs_Yg hr (br_f rs_01 (rs_Yg hx (br_f rs_01 (rs_Yb hb (br_t rfl (br_t rfl ⟨rfl, rs_rel hI⟩))))))
    · refine rs_Xg hr (br_t rfl (rs_Xb hb (br_f rs_01 ?_)))
      unfold wpY_subtract wpY_areRegisters
      dsimp only
      exact rs_Yg hr (br_f rs_01 (rs_Yb hb (br_t rfl (br_t rfl ⟨rfl, rs_rel hI⟩))))
  · refine rs_Xb hb (br_f rs_01 ?_)
    unfold wpY_subtract wpY_areRegisters
    dsimp only
    exact rs_Yb hb (br_t rfl (br_t rfl ⟨rfl, rs_rel hI⟩))
/-! numbers in lowest terms already -/
theorem rs_G1 {a b c d m : Int} (h : rs_g5 a b c d m = 1) (hm : 0 < m) : rs_G a b c d m = 1 := by
  unfold rs_G
  rw [if_neg (by omega), h]
  rfl
theorem rs_bs {z : Int} (h : rs_bd z) : rs_s z := ⟨by have := h.1; omega, by have := h.2; omega⟩
theorem rs_Xstore0 {post : Int32 → SX → Prop} {a b c d m : Int} {p q : Int64} {P : Nat → Int32} {r : Nat} (hr : r < 6) (ok : rs_ok a b c d m)
    (h : ∀ x1 x2 x3 x4 x5 : Int64, post 0 (x1, x2, x3, x4, x5, p, q, rs_up5 P r a b c d m)) :
    wpX_store post (rs_L a, rs_L b, rs_L c, rs_L d, rs_L m, p, q, P) (nI r) := by
  obtain ⟨h1, h2, h3, h4, h5, h6, h7⟩ := ok
  have hm : rs_bd m := ⟨by omega, h6⟩
  refine rs_Xstore1 hr (rs_bs h1) (rs_bs h2) (rs_bs h3) (rs_bs h4) (rs_bs hm) (by omega) 1 (rs_G1 h7 (by omega)) ?_ ?_
  · rw [Int.tdiv_one, Int.tdiv_one, Int.tdiv_one, Int.tdiv_one, Int.tdiv_one]
    exact ⟨h1, h2, h3, h4, hm⟩
  · rw [Int.tdiv_one, Int.tdiv_one, Int.tdiv_one, Int.tdiv_one, Int.tdiv_one]
    exact h
/-! whole -/
theorem rs_okw {x : Int} (h : rs_bd x) : rs_ok x 0 0 0 1 := ⟨h, ⟨by omega, by omega⟩, ⟨by omega, by omega⟩, ⟨by omega, by omega⟩, by omega, by omega, Nat.gcd_one_right _⟩
theorem rs_Yw {post : Int32 → SY → Prop} {P : Nat → Int32} {M T C : Nat → Int64} {r : Nat} {x : Int32} (hr : r < 6) (h : post 0 (rs_up5 P r x.toInt 0 0 0 1, M, T, C)) : wY_whole_25 post (nI r) x 6 0 P M T C := by
  have v (k : Nat) (hk : k < 5) : vp_in (5 * nI r + nI k) 30 := rs_tr (rs_vk k hr hk)
  have e (k : Nat) (hk : k < 5) (Q : Nat → Int32) (y y' : Int32) (ey : y = y') : upd Q (5 * nI r + nI k).toNatClampNeg y = upd Q (5 * r + k) y' := by
    rw [rs_ck k hr hk, ey]
  refine br_f rs_n50 (br_t rfl ⟨v 0 (by decide), nm_r (e 0 (by decide) P x (rs_I x.toInt) (rs_II x).symm) (nm_r rs_a0 ?_)⟩)
  refine br_f rs_n51 (br_f (by decide) (br_f (by decide) ⟨v 1 (by decide), nm_r (e 1 (by decide) _ 0 (rs_I 0) rfl) (nm_r rs_a1 ?_)⟩))
  refine br_f rs_n52 (br_f (by decide) (br_f (by decide) ⟨v 2 (by decide), nm_r (e 2 (by decide) _ 0 (rs_I 0) rfl) (nm_r rs_a2 ?_)⟩))
  refine br_f rs_n53 (br_f (by decide) (br_f (by decide) ⟨v 3 (by decide), nm_r (e 3 (by decide) _ 0 (rs_I 0) rfl) (nm_r rs_a3 ?_)⟩))
  refine br_f rs_n54 (br_f (by decide) (br_t (by decide) ⟨v 4 (by decide), nm_r (e 4 (by decide) _ 1 (rs_I 1) rfl) (nm_r rs_a4 ?_)⟩))
  exact br_t rs_y55 h
theorem rs_m30 : (-30 : Int32).toInt = -30 := by decide
theorem rs_p30 : (30 : Int32).toInt = 30 := by decide
theorem i_vc_whole {k : Nat} {u : SX} {v : SY} (I : i_Rel k u v) (hk : k + 4 ≤ 2048) (v1 : Int32) (v2 : Int32) : wpX_whole (fun r u' => wpY_whole (fun r' v' => r' = r ∧ i_Rel (k + 4) u' v') v v1 v2) u v1 v2 := by
  obtain ⟨a, b, c, d, m, p, q, P⟩ := u
  obtain ⟨P', M, T, C⟩ := v
  have e : P = P' := I.1
  have hI : rs_Inv P' := I.2
  subst e
  unfold wpX_whole
  dsimp only
  rcases rs_reg v1 with ⟨r, hr, rfl⟩ | hb
  · refine rs_Xg hr (br_t rfl (br_c (fun k1 => ?_) (fun k1 => br_c (fun k2 => ?_) (fun k2 => ?_))))
    · unfold wpY_whole
      dsimp only
      exact rs_Yg hr (br_f rs_01 (br_t k1 ⟨rfl, rs_rel hI⟩))
    · have hx : rs_bd v2.toInt := by
        have k1' := k1
        have k2' := k2
        rw [Int32.lt_iff_toInt_lt, rs_m30] at k1'
        rw [Int32.le_iff_toInt_le, rs_p30] at k2'
        exact ⟨by omega, by omega⟩
      have ok := rs_okw hx
      have W := rs_Xstore0 (post := fun w u' => wpY_whole (fun r' v' => r' = w ∧ i_Rel (k + 4) u' v') (P, M, T, C) (nI r) v2) (p := p) (q := q) (P := P) hr ok (fun x1 x2 x3 x4 x5 => by
        unfold wpY_whole
        dsimp only
        exact rs_Yg hr (br_f rs_01 (br_f k1 (br_t k2 ⟨6, rs_Yw hr ⟨rfl, rs_rel (rs_Inv_up hI ok)⟩⟩))))
      exact W
    · unfold wpY_whole
      dsimp only
      exact rs_Yg hr (br_f rs_01 (br_f k1 (br_f k2 ⟨rfl, rs_rel hI⟩)))
  · refine rs_Xb hb (br_f rs_01 ?_)
    unfold wpY_whole
    dsimp only
    exact rs_Yb hb (br_t rfl ⟨rfl, rs_rel hI⟩)
end
section
/-! put -/
theorem rs_tb {z w : Int} (h : rs_bd z) : rs_bd (z.tdiv w) := by
  have h1 := Int.natAbs_tdiv_le_natAbs z w
  have h2 := h.1
  have h3 := h.2
  exact ⟨by omega, by omega⟩
theorem rs_up_upd {P : Nat → Int32} {r k : Nat} {x : Int32} {a b c d m : Int} (hk : k < 5) : rs_up5 (upd P (5 * r + k) x) r a b c d m = rs_up5 P r a b c d m := by
  funext j
  by_cases h0 : j = 5 * r
  · subst h0; rw [rs_u0, rs_u0]
  by_cases h1 : j = 5 * r + 1
  · subst h1; rw [rs_u1, rs_u1]
  by_cases h2 : j = 5 * r + 2
  · subst h2; rw [rs_u2, rs_u2]
  by_cases h3 : j = 5 * r + 3
  · subst h3; rw [rs_u3, rs_u3]
  by_cases h4 : j = 5 * r + 4
  · subst h4; rw [rs_u4, rs_u4]
  rw [rs_up_ne h0 h1 h2 h3 h4, rs_up_ne h0 h1 h2 h3 h4, pk_un (by omega)]
theorem rs_Ycopy {post : SY → Prop} {P : Nat → Int32} {M T C : Nat → Int64} {r : Nat} (hr : r < 6)
    (h : ∀ M', (∀ j, j < 5 → M' j = rs_L (P (5 * r + j)).toInt) → post (P, M', T, C)) : wpY_copy post (P, M, T, C) (nI r) := by
  have v (k : Nat) (hk : k < 5) : vp_in (5 * nI r + nI k) 30 := rs_tr (rs_vk k hr hk)
  have e (k : Nat) (hk : k < 5) (Q : Nat → Int64) : vp_updL Q (nI k).toNatClampNeg (P (5 * nI r + nI k).toNatClampNeg).toInt64 = vp_updL Q k (rs_L (P (5 * r + k)).toInt) := by
    rw [rs_ck k hr hk, nI_clamp (by omega), rs_to]
  refine ⟨6, ?_⟩
  refine br_f rs_n50 ⟨v 0 (by decide), rs_in5_0, nm_r (e 0 (by decide) M) (nm_r rs_a0 ?_)⟩
  refine br_f rs_n51 ⟨v 1 (by decide), rs_in5_1, nm_r (e 1 (by decide) _) (nm_r rs_a1 ?_)⟩
  refine br_f rs_n52 ⟨v 2 (by decide), rs_in5_2, nm_r (e 2 (by decide) _) (nm_r rs_a2 ?_)⟩
  refine br_f rs_n53 ⟨v 3 (by decide), rs_in5_3, nm_r (e 3 (by decide) _) (nm_r rs_a3 ?_)⟩
  refine br_f rs_n54 ⟨v 4 (by decide), rs_in5_4, nm_r (e 4 (by decide) _) (nm_r rs_a4 ?_)⟩
  refine br_t rs_y55 (h _ ?_)
  intro j hj
  have c : j = 0 ∨ j = 1 ∨ j = 2 ∨ j = 3 ∨ j = 4 := by omega
  rcases c with rfl | rfl | rfl | rfl | rfl <;> rfl
theorem i_vc_put {k : Nat} {u : SX} {v : SY} (I : i_Rel k u v) (hk : k + 4 ≤ 2048) (v1 : Int32) (v2 : Int32) (v3 : Int32) : wpX_put (fun r u' => wpY_put (fun r' v' => r' = r ∧ i_Rel (k + 4) u' v') v v1 v2 v3) u v1 v2 v3 := by
  obtain ⟨a, b, c, d, m, p, q, P⟩ := u
  obtain ⟨P', M, T, C⟩ := v
  have e : P = P' := I.1
  have hI : rs_Inv P' := I.2
  subst e
  unfold wpX_put
  dsimp only
  rcases rs_reg v1 with ⟨r, hr, rfl⟩ | hb
  · refine rs_Xg hr (br_t rfl (br_c (fun k1 => ?_) (fun k1 => br_c (fun k2 => ?_) (fun k2 => br_c (fun k3 => ?_) (fun k3 => br_c (fun k4 => ?_) (fun k4 => ?_))))))
    · unfold wpY_put
      dsimp only
      exact rs_Yg hr (br_f rs_01 (br_t k1 ⟨rfl, rs_rel hI⟩))
    · unfold wpY_put
      dsimp only
      exact rs_Yg hr (br_f rs_01 (br_f k1 (br_t k2 ⟨rfl, rs_rel hI⟩)))
    · unfold wpY_put
      dsimp only
      exact rs_Yg hr (br_f rs_01 (br_f k1 (br_f k2 (br_t k3 ⟨rfl, rs_rel hI⟩))))
    · have hx : rs_bd v3.toInt := by
        have k3' := k3
        have k4' := k4
        rw [Int32.lt_iff_toInt_lt, rs_m30] at k3'
        rw [Int32.le_iff_toInt_le, rs_p30] at k4'
        exact ⟨by omega, by omega⟩
      obtain ⟨j, hj, rfl⟩ := nI_of2 (M := 3) (n := 3) (by decide) k1 (Int32.not_lt.mp k2)
      have vi : vp_in (5 * nI r + nI j) 30 := rs_tr (rs_vk j hr (by omega))
      refine ⟨vi, nm_r (e' := upd P (5 * r + j) v3) (by rw [rs_ck j hr (by omega)]) ?_⟩
      have Z : ∀ i, i < 4 → rs_bd (upd P (5 * r + j) v3 (5 * r + i)).toInt := by
        intro i hi
        by_cases ei : i = j
        · subst ei; rw [pk_us]; exact hx
        · rw [pk_un (by omega)]
          obtain ⟨g1, g2, g3, g4, g5, g6, g7⟩ := hI r hr
          have c : i = 0 ∨ i = 1 ∨ i = 2 ∨ i = 3 := by omega
          rcases c with rfl | rfl | rfl | rfl
          · exact g1
          · exact g2
          · exact g3
          · exact g4
      have Z4 : upd P (5 * r + j) v3 (5 * r + 4) = P (5 * r + 4) := pk_un (by omega)
      have hm : rs_bd (upd P (5 * r + j) v3 (5 * r + 4)).toInt := by rw [Z4]; exact rs_bm hI hr
      have hm0 : (upd P (5 * r + j) v3 (5 * r + 4)).toInt ≠ 0 := by
        rw [Z4]
        have := (hI r hr).2.2.2.2.1
        omega
      have z0 := Z 0 (by omega)
      have z1 := Z 1 (by omega)
      have z2 := Z 2 (by omega)
      have z3 := Z 3 (by omega)
      generalize hQ : upd P (5 * r + j) v3 = Q at *
      have ft (G : Int) : rs_fit ((Q (5 * r)).toInt.tdiv G) ((Q (5 * r + 1)).toInt.tdiv G) ((Q (5 * r + 2)).toInt.tdiv G) ((Q (5 * r + 3)).toInt.tdiv G) ((Q (5 * r + 4)).toInt.tdiv G) := ⟨rs_tb z0, rs_tb z1, rs_tb z2, rs_tb z3, rs_tb hm⟩
      refine rs_Xload hr ?_
      refine rs_Xstore1 hr (rs_bs z0) (rs_bs z1) (rs_bs z2) (rs_bs z3) (rs_bs hm) hm0 _ rfl (ft _) (fun x1 x2 x3 x4 x5 => ?_)
      have lo := rs_low hm0 rfl (ft _)
      have eU (a b c d m : Int) : rs_up5 Q r a b c d m = rs_up5 P r a b c d m := by rw [← hQ]; exact rs_up_upd (by omega)
      dsimp only
      refine ⟨rs_tr (rs_v4 hr), ?_⟩
      rw [rs_c4 hr, rs_u4, eU]
      unfold wpY_put
      dsimp only
      refine rs_Yg hr (br_f rs_01 (br_f k1 (br_f k2 (br_f k3 (br_t k4 (rs_Ycopy hr (fun M' hM' => ?_)))))))
      refine ⟨vp_in_nI (by omega) (by omega), nm_r (e' := vp_updL M' j (rs_L v3.toInt)) (by rw [nI_clamp (by omega), rs_to]) ?_⟩
      have M5 : ∀ i, i < 5 → vp_updL M' j (rs_L v3.toInt) i = rs_L (Q (5 * r + i)).toInt := by
        intro i hi
        rw [← hQ]
        by_cases ei : i = j
        · subst ei; rw [pk_uLs, pk_us]
        · rw [pk_uLn ei, pk_un (by omega), hM' i hi]
      refine rs_Ytake1 hr (rs_bs z0) (rs_bs z1) (rs_bs z2) (rs_bs z3) (rs_bs hm) hm0 ⟨M5 0 (by omega), M5 1 (by omega), M5 2 (by omega), M5 3 (by omega), M5 4 (by omega)⟩ _ rfl (ft _) (fun M'' => ?_)
      dsimp only
      refine ⟨rs_tr (rs_v4 hr), ?_⟩
      rw [rs_c4 hr, rs_u4]
      exact ⟨rfl, rs_rel (rs_Inv_up hI lo)⟩
    · unfold wpY_put
      dsimp only
      exact rs_Yg hr (br_f rs_01 (br_f k1 (br_f k2 (br_f k3 (br_f k4 ⟨rfl, rs_rel hI⟩)))))
  · refine rs_Xb hb (br_f rs_01 ?_)
    unfold wpY_put
    dsimp only
    exact rs_Yb hb (br_t rfl ⟨rfl, rs_rel hI⟩)
/-! conjugate -/
theorem rs_abu {u z : Int} (hu : u = 1 ∨ u = -1) : (u * z).natAbs = z.natAbs := by
  rcases hu with rfl | rfl
  · rw [Int.one_mul]
  · rw [Int.neg_mul, Int.one_mul, Int.natAbs_neg]
theorem rs_okc {a b c d m u w : Int} (hu : u = 1 ∨ u = -1) (hw : w = 1 ∨ w = -1) (h : rs_ok a b c d m) : rs_ok a (u * b) (w * c) (u * w * d) m := by
  obtain ⟨h1, h2, h3, h4, h5, h6, h7⟩ := h
  refine ⟨h1, rs_pmb hu h2, rs_pmb hw h3, rs_pmb (rs_pmm hu hw) h4, h5, h6, ?_⟩
  unfold rs_g5
  rw [rs_abu hu, rs_abu hw, rs_abu (rs_pmm hu hw)]
  exact h7
theorem rs_xm {X : Int32} {u : Int} : X * rs_I u = rs_I (u * X.toInt) := by
  rw [Int.mul_comm, ← rs_Imul, rs_II]
theorem rs_Y31 {post : Int32 → SY → Prop} {P : Nat → Int32} {M T C : Nat → Int64} {r x : Nat} (hr : r < 6) (hx : x < 6) (w : Int32) (u v : Int) (f0 : rs_fl 0 w = rs_I 1) (f1 : rs_fl 1 w = rs_I u) (f2 : rs_fl 2 w = rs_I v) (f3 : rs_fl 3 w = rs_I (u * v)) (f4 : rs_fl 4 w = rs_I 1)
    (h : post 0 (rs_up5 P r (1 * (P (5 * x)).toInt) (u * (P (5 * x + 1)).toInt) (v * (P (5 * x + 2)).toInt) (u * v * (P (5 * x + 3)).toInt) (1 * (P (5 * x + 4)).toInt), M, T, C)) :
    wY_conjugate_31 post (nI r) (nI x) w 6 0 P M T C := by
  have vr (k : Nat) (hk : k < 5) : vp_in (5 * nI r + nI k) 30 := rs_tr (rs_vk k hr hk)
  have vx (k : Nat) (hk : k < 5) : vp_in (5 * nI x + nI k) 30 := rs_tr (rs_vk k hx hk)
  have e (k : Nat) (hk : k < 5) (Q : Nat → Int32) (z : Int) (hf : rs_fl (nI k) w = rs_I z) (hQ : Q (5 * x + k) = P (5 * x + k)) : upd Q (5 * nI r + nI k).toNatClampNeg (Q (5 * nI x + nI k).toNatClampNeg * rs_fl (nI k) w) = upd Q (5 * r + k) (rs_I (z * (P (5 * x + k)).toInt)) := by
    rw [rs_ck k hr hk, rs_ck k hx hk, hf, hQ, rs_xm]
  refine br_f rs_n50 ⟨vx 0 (by decide), rs_Yflip ⟨vr 0 (by decide), nm_r (e 0 (by decide) P 1 f0 rfl) (nm_r rs_a0 ?_)⟩⟩
  refine br_f rs_n51 ⟨vx 1 (by decide), rs_Yflip ⟨vr 1 (by decide), nm_r (e 1 (by decide) _ u f1 (by rw [pk_un (by omega)])) (nm_r rs_a1 ?_)⟩⟩
  refine br_f rs_n52 ⟨vx 2 (by decide), rs_Yflip ⟨vr 2 (by decide), nm_r (e 2 (by decide) _ v f2 (by rw [pk_un (by omega), pk_un (by omega)])) (nm_r rs_a2 ?_)⟩⟩
  refine br_f rs_n53 ⟨vx 3 (by decide), rs_Yflip ⟨vr 3 (by decide), nm_r (e 3 (by decide) _ (u * v) f3 (by rw [pk_un (by omega), pk_un (by omega), pk_un (by omega)])) (nm_r rs_a3 ?_)⟩⟩
  refine br_f rs_n54 ⟨vx 4 (by decide), rs_Yflip ⟨vr 4 (by decide), nm_r (e 4 (by decide) _ 1 f4 (by rw [pk_un (by omega), pk_un (by omega), pk_un (by omega), pk_un (by omega)])) (nm_r rs_a4 ?_)⟩⟩
  exact br_t rs_y55 h
/-- one kind of conjugate: X's store at the four values gives Y's answer -/
theorem rs_CJ {k : Nat} {p q : Int64} {P : Nat → Int32} {M T C : Nat → Int64} {r x : Nat} (hI : rs_Inv P) (hr : r < 6) (hx : x < 6) (w : Int32) (u v : Int) (hu : u = 1 ∨ u = -1) (hv : v = 1 ∨ v = -1) (f0 : rs_fl 0 w = rs_I 1) (f1 : rs_fl 1 w = rs_I u) (f2 : rs_fl 2 w = rs_I v) (f3 : rs_fl 3 w = rs_I (u * v)) (f4 : rs_fl 4 w = rs_I 1) (w0 : ¬ w < 0) (w3 : w ≤ 3) :
    wpX_store (fun s u' => wpY_conjugate (fun r' v' => r' = s ∧ i_Rel (k + 4) u' v') (P, M, T, C) (nI r) (nI x) w) (rs_L (P (5 * x)).toInt, rs_L (u * (P (5 * x + 1)).toInt), rs_L (v * (P (5 * x + 2)).toInt), rs_L (u * v * (P (5 * x + 3)).toInt), rs_L (P (5 * x + 4)).toInt, p, q, P) (nI r) := by
  have ok := rs_okc hu hv (hI x hx)
  refine rs_Xstore0 hr ok (fun x1 x2 x3 x4 x5 => ?_)
  unfold wpY_conjugate
  dsimp only
  refine rs_Yg hr (br_f rs_01 (rs_Yg hx (br_f rs_01 (br_f w0 (br_t w3 ⟨6, rs_Y31 hr hx w u v f0 f1 f2 f3 f4 ?_⟩)))))
  rw [Int.one_mul, Int.one_mul]
  exact ⟨rfl, rs_rel (rs_Inv_up hI ok)⟩
theorem i_vc_conjugate {k : Nat} {u : SX} {v : SY} (I : i_Rel k u v) (hk : k + 4 ≤ 2048) (v1 : Int32) (v2 : Int32) (v3 : Int32) : wpX_conjugate (fun r u' => wpY_conjugate (fun r' v' => r' = r ∧ i_Rel (k + 4) u' v') v v1 v2 v3) u v1 v2 v3 := by
  obtain ⟨a, b, c, d, m, p, q, P⟩ := u
  obtain ⟨P', M, T, C⟩ := v
  have e : P = P' := I.1
  have hI : rs_Inv P' := I.2
  subst e
  unfold wpX_conjugate
  dsimp only
  rcases rs_reg v1 with ⟨r, hr, rfl⟩ | hb
  · rcases rs_reg v2 with ⟨x, hx, rfl⟩ | hb
    · refine rs_Xg hr (br_t rfl (rs_Xg hx (br_t rfl (br_c (fun k1 => ?_) (fun k1 => br_c (fun k2 => ?_) (fun k2 => ?_))))))
      · unfold wpY_conjugate
        dsimp only
        exact rs_Yg hr (br_f rs_01 (rs_Yg hx (br_f rs_01 (br_t k1 ⟨rfl, rs_rel hI⟩))))
      · obtain ⟨j, hj, rfl⟩ := nI_of2 (M := 3) (n := 3) (by decide) k1 k2
        refine rs_Xload hx ?_
        have cj : j = 0 ∨ j = 1 ∨ j = 2 ∨ j = 3 := by omega
        rcases cj with rfl | rfl | rfl | rfl
        · refine br_f (by decide) (br_t (by decide) ?_)
          have W := rs_CJ (k := k) (p := p) (q := q) (M := M) (T := T) (C := C) hI hr hx (nI 0) 1 1 (Or.inl rfl) (Or.inl rfl) (by decide) (by decide) (by decide) (by decide) (by decide) k1 k2
          rw [Int.one_mul, Int.one_mul, Int.one_mul, Int.one_mul] at W
          exact W
        · refine br_t (by decide) (nm_r (rs_neg _) (nm_r (rs_neg _) (br_t (by decide) ?_)))
          have W := rs_CJ (k := k) (p := p) (q := q) (M := M) (T := T) (C := C) hI hr hx (nI 1) (-1) 1 (Or.inr rfl) (Or.inl rfl) (by decide) (by decide) (by decide) (by decide) (by decide) k1 k2
          rw [Int.mul_one, Int.one_mul, Int.neg_mul, Int.one_mul, Int.neg_mul, Int.one_mul] at W
          exact W
        · refine br_f (by decide) (br_f (by decide) (nm_r (rs_neg _) (nm_r (rs_neg _) ?_)))
          have W := rs_CJ (k := k) (p := p) (q := q) (M := M) (T := T) (C := C) hI hr hx (nI 2) 1 (-1) (Or.inl rfl) (Or.inr rfl) (by decide) (by decide) (by decide) (by decide) (by decide) k1 k2
          rw [Int.one_mul, Int.one_mul, Int.neg_mul, Int.one_mul, Int.neg_mul, Int.one_mul] at W
          exact W
        · refine br_t (by decide) (nm_r (rs_neg _) (nm_r (rs_neg _) (br_f (by decide) (nm_r (rs_neg _) (nm_r (rs_neg _) ?_)))))
          have W := rs_CJ (k := k) (p := p) (q := q) (M := M) (T := T) (C := C) hI hr hx (nI 3) (-1) (-1) (Or.inr rfl) (Or.inr rfl) (by decide) (by decide) (by decide) (by decide) (by decide) k1 k2
          rw [show (-1 : Int) * -1 = 1 from rfl, Int.one_mul, Int.neg_mul, Int.one_mul, Int.neg_mul, Int.one_mul] at W
          rw [Int.neg_neg]
          exact W
      · unfold wpY_conjugate
        dsimp only
        exact rs_Yg hr (br_f rs_01 (rs_Yg hx (br_f rs_01 (br_f k1 (br_f k2 ⟨rfl, rs_rel hI⟩)))))
    · refine rs_Xg hr (br_t rfl (rs_Xb hb (br_f rs_01 ?_)))
      unfold wpY_conjugate
      dsimp only
      exact rs_Yg hr (br_f rs_01 (rs_Yb hb (br_t rfl ⟨rfl, rs_rel hI⟩)))
  · refine rs_Xb hb (br_f rs_01 ?_)
    unfold wpY_conjugate
    dsimp only
    exact rs_Yb hb (br_t rfl ⟨rfl, rs_rel hI⟩)
end
section
/-! multiply, inverse -/
def rs_t0 (a b c d w x y z : Int) : Int := a * w + 2 * b * x + 3 * c * y + 6 * d * z
def rs_t1 (a b c d w x y z : Int) : Int := a * x + b * w + 3 * c * z + 3 * d * y
def rs_t2 (a b c d w x y z : Int) : Int := a * y + c * w + 2 * b * z + 2 * d * x
def rs_t3 (a b c d w x y z : Int) : Int := a * z + d * w + b * y + c * x
theorem rs_Xtimes {post : SX → Prop} {a b c d w x y z : Int} {m p q : Int64} {P : Nat → Int32}
    (h : post (rs_L (rs_t0 a b c d w x y z), rs_L (rs_t1 a b c d w x y z), rs_L (rs_t2 a b c d w x y z), rs_L (rs_t3 a b c d w x y z), m, p, q, P)) :
    wpX_times post (rs_L a, rs_L b, rs_L c, rs_L d, m, p, q, P) (rs_L w) (rs_L x) (rs_L y) (rs_L z) := by
  refine nm_r (e' := rs_L (rs_t0 a b c d w x y z)) ?_ (nm_r (e' := rs_L (rs_t1 a b c d w x y z)) ?_ (nm_r (e' := rs_L (rs_t2 a b c d w x y z)) ?_ (nm_r (e' := rs_L (rs_t3 a b c d w x y z)) ?_ h)))
  · simp only [rs_l2, rs_l3, rs_l6, rs_mul, rs_add, rs_t0]
  · simp only [rs_l2, rs_l3, rs_l6, rs_mul, rs_add, rs_t1]
  · simp only [rs_l2, rs_l3, rs_l6, rs_mul, rs_add, rs_t2]
  · simp only [rs_l2, rs_l3, rs_l6, rs_mul, rs_add, rs_t3]
/-- Y's matrix -/
def rs_mt (a b c d : Int) : Nat → Int
  | 0 => a | 1 => 2 * b | 2 => 3 * c | 3 => 6 * d
  | 4 => b | 5 => a | 6 => 3 * d | 7 => 3 * c
  | 8 => c | 9 => 2 * d | 10 => a | 11 => 2 * b
  | 12 => d | 13 => c | 14 => b | _ => a
theorem rs_16 {Q : Nat → Prop} (h0 : Q 0) (h1 : Q 1) (h2 : Q 2) (h3 : Q 3) (h4 : Q 4) (h5 : Q 5) (h6 : Q 6) (h7 : Q 7) (h8 : Q 8) (h9 : Q 9) (h10 : Q 10) (h11 : Q 11) (h12 : Q 12) (h13 : Q 13) (h14 : Q 14) (h15 : Q 15) : ∀ j, j < 16 → Q j := by
  intro j hj
  have c : j = 0 ∨ j = 1 ∨ j = 2 ∨ j = 3 ∨ j = 4 ∨ j = 5 ∨ j = 6 ∨ j = 7 ∨ j = 8 ∨ j = 9 ∨ j = 10 ∨ j = 11 ∨ j = 12 ∨ j = 13 ∨ j = 14 ∨ j = 15 := by omega
  rcases c with rfl | rfl | rfl | rfl | rfl | rfl | rfl | rfl | rfl | rfl | rfl | rfl | rfl | rfl | rfl | rfl <;> assumption
theorem rs_Yset {post : SY → Prop} {P : Nat → Int32} {M T C : Nat → Int64} {r : Nat} (hr : r < 6)
    (h : ∀ T', (∀ j, j < 16 → T' j = rs_L (rs_mt (P (5 * r)).toInt (P (5 * r + 1)).toInt (P (5 * r + 2)).toInt (P (5 * r + 3)).toInt j)) → post (P, M, T', C)) : wpY_setMatrix post (P, M, T, C) (nI r) := by
  refine ⟨rs_tr (rs_v0 hr), nm_r (e' := rs_L (P (5 * r)).toInt) (by rw [rs_c0 hr]; rfl) ⟨rs_tr (rs_v1 hr), nm_r (e' := rs_L (P (5 * r + 1)).toInt) (by rw [rs_c1 hr]; rfl) ⟨rs_tr (rs_v2 hr), nm_r (e' := rs_L (P (5 * r + 2)).toInt) (by rw [rs_c2 hr]; rfl) ⟨rs_tr (rs_v3 hr), nm_r (e' := rs_L (P (5 * r + 3)).toInt) (by rw [rs_c3 hr]; rfl) ⟨5, ?_⟩⟩⟩⟩⟩
  generalize (P (5 * r)).toInt = a at *
  generalize (P (5 * r + 1)).toInt = b at *
  generalize (P (5 * r + 2)).toInt = c at *
  generalize (P (5 * r + 3)).toInt = d at *
  have i0 : vp_in (5 * 0) 16 := vp_in_nI (n := 0) (by decide) (by decide)
  have i1 : vp_in (5 * 1) 16 := vp_in_nI (n := 5) (by decide) (by decide)
  have i2 : vp_in (5 * 2) 16 := vp_in_nI (n := 10) (by decide) (by decide)
  have i3 : vp_in (5 * 3) 16 := vp_in_nI (n := 15) (by decide) (by decide)
  have q0 : ((5 : Int32) * 0).toNatClampNeg = 0 := by decide
  have q1 : ((5 : Int32) * 1).toNatClampNeg = 5 := by decide
  have q2 : ((5 : Int32) * 2).toNatClampNeg = 10 := by decide
  have q3 : ((5 : Int32) * 3).toNatClampNeg = 15 := by decide
  refine br_f rs_n40 ⟨i0, nm_r (by rw [q0]) (nm_r rs_a0 ?_)⟩
  refine br_f rs_n41 ⟨i1, nm_r (by rw [q1]) (nm_r rs_a1 ?_)⟩
  refine br_f rs_n42 ⟨i2, nm_r (by rw [q2]) (nm_r rs_a2 ?_)⟩
  refine br_f rs_n43 ⟨i3, nm_r (by rw [q3]) (nm_r rs_a3 ?_)⟩
  rw [wY_setMatrix_52]
  simp only [rs_l2, rs_l3, rs_l6, rs_mul]
  refine br_t rs_y44 (nm_e (nm_e (nm_e (nm_e (nm_e (nm_e (nm_e (nm_e (nm_e (nm_e (nm_e (nm_e (h _ ?_)))))))))))))
  exact rs_16 rfl rfl rfl rfl rfl rfl rfl rfl rfl rfl rfl rfl rfl rfl rfl rfl
theorem rs_x4 (k i : Nat) : 4 * nI k + nI i = nI (4 * k + i) := by rw [show (4 : Int32) = nI 4 from rfl, pk_mul, nI_add]
theorem rs_Y18 {post : SY → Prop} {J : Int32 → (Nat → Int32) → (Nat → Int64) → (Nat → Int64) → (Nat → Int64) → Prop} {P : Nat → Int32} {M T C : Nat → Int64} {x k : Nat} {x2 : Int32} (hx : x < 6) (hk : k < 4)
    (h : J (nI (k + 1)) P (vp_updL M k (0 + T (4 * k) * rs_L (P (5 * x)).toInt + T (4 * k + 1) * rs_L (P (5 * x + 1)).toInt + T (4 * k + 2) * rs_L (P (5 * x + 2)).toInt + T (4 * k + 3) * rs_L (P (5 * x + 3)).toInt)) T C) :
    wY_product_18 post J (nI x) x2 (nI k) P M T C 5 0 0 := by
  have vm (i : Nat) (hi : i < 4) : vp_in (4 * nI k + nI i) 16 := by rw [rs_x4]; exact vp_in_nI (by omega) (by omega)
  have vx (i : Nat) (hi : i < 5) : vp_in (5 * nI x + nI i) 30 := rs_tr (rs_vk i hx hi)
  have e (i : Nat) (hi : i < 4) (z : Int64) : z + T (4 * nI k + nI i).toNatClampNeg * (P (5 * nI x + nI i).toNatClampNeg).toInt64 = z + T (4 * k + i) * rs_L (P (5 * x + i)).toInt := by
    rw [rs_x4, nI_clamp (by omega), rs_ck i hx (by omega), rs_to]
  refine br_f rs_n40 ⟨vm 0 (by decide), vx 0 (by decide), nm_r (e 0 (by decide) _) (nm_r rs_a0 ?_)⟩
  refine br_f rs_n41 ⟨vm 1 (by decide), vx 1 (by decide), nm_r (e 1 (by decide) _) (nm_r rs_a1 ?_)⟩
  refine br_f rs_n42 ⟨vm 2 (by decide), vx 2 (by decide), nm_r (e 2 (by decide) _) (nm_r rs_a2 ?_)⟩
  refine br_f rs_n43 ⟨vm 3 (by decide), vx 3 (by decide), nm_r (e 3 (by decide) _) (nm_r rs_a3 ?_)⟩
  exact br_t rs_y44 ⟨vp_in_nI (by omega) (by omega), nm_r (by rw [nI_clamp (by omega)]; rfl) (nm_r (nI_1 k) h)⟩
theorem rs_sum {T0 T1 T2 T3 : Int64} {a b c d x0 x1 x2 x3 : Int} (h0 : T0 = rs_L a) (h1 : T1 = rs_L b) (h2 : T2 = rs_L c) (h3 : T3 = rs_L d) : 0 + T0 * rs_L x0 + T1 * rs_L x1 + T2 * rs_L x2 + T3 * rs_L x3 = rs_L (a * x0 + b * x1 + c * x2 + d * x3) := by
  subst h0 h1 h2 h3
  rw [Int64.zero_add, rs_mul, rs_mul, rs_mul, rs_mul, rs_add, rs_add, rs_add]
theorem rs_Imm {X Y : Int32} (hx : rs_bd X.toInt) (hy : rs_bd Y.toInt) : (X * Y).toInt64 = rs_L (X.toInt * Y.toInt) := by
  have k := rs_mb hx.1 hx.2 hy.1 hy.2
  rw [← rs_II X, ← rs_II Y, rs_Imul, rs_Ito (by omega) (by omega), rs_II, rs_II]
theorem rs_Yprod {post : SY → Prop} {P : Nat → Int32} {M T C : Nat → Int64} {x y : Nat} (hI : rs_Inv P) (hx : x < 6) (hy : y < 6)
    (h : ∀ M' T', rs_M5 M' (rs_t0 (P (5 * x)).toInt (P (5 * x + 1)).toInt (P (5 * x + 2)).toInt (P (5 * x + 3)).toInt (P (5 * y)).toInt (P (5 * y + 1)).toInt (P (5 * y + 2)).toInt (P (5 * y + 3)).toInt) (rs_t1 (P (5 * x)).toInt (P (5 * x + 1)).toInt (P (5 * x + 2)).toInt (P (5 * x + 3)).toInt (P (5 * y)).toInt (P (5 * y + 1)).toInt (P (5 * y + 2)).toInt (P (5 * y + 3)).toInt) (rs_t2 (P (5 * x)).toInt (P (5 * x + 1)).toInt (P (5 * x + 2)).toInt (P (5 * x + 3)).toInt (P (5 * y)).toInt (P (5 * y + 1)).toInt (P (5 * y + 2)).toInt (P (5 * y + 3)).toInt) (rs_t3 (P (5 * x)).toInt (P (5 * x + 1)).toInt (P (5 * x + 2)).toInt (P (5 * x + 3)).toInt (P (5 * y)).toInt (P (5 * y + 1)).toInt (P (5 * y + 2)).toInt (P (5 * y + 3)).toInt) ((P (5 * x + 4)).toInt * (P (5 * y + 4)).toInt) → post (P, M', T', C)) :
    wpY_product post (P, M, T, C) (nI x) (nI y) := by
  have bx := rs_bm hI hx
  have by' := rs_bm hI hy
  unfold wpY_product
  dsimp only
  refine rs_Yset hy (fun T' hT => ⟨5, ?_⟩)
  refine br_f rs_n40 ⟨5, rs_Y18 (k := 0) hx (by decide) ?_⟩
  refine br_f rs_n41 ⟨5, rs_Y18 (k := 1) hx (by decide) ?_⟩
  refine br_f rs_n42 ⟨5, rs_Y18 (k := 2) hx (by decide) ?_⟩
  refine br_f rs_n43 ⟨5, rs_Y18 (k := 3) hx (by decide) ?_⟩
  refine br_t rs_y44 ⟨rs_tr (rs_v4 hx), rs_tr (rs_v4 hy), nm_r (by rw [rs_c4 hx, rs_c4 hy, rs_Imm bx by']) (h _ _ ?_)⟩
  rw [rs_sum (hT 0 (by decide)) (hT 1 (by decide)) (hT 2 (by decide)) (hT 3 (by decide)), rs_sum (hT 4 (by decide)) (hT 5 (by decide)) (hT 6 (by decide)) (hT 7 (by decide)), rs_sum (hT 8 (by decide)) (hT 9 (by decide)) (hT 10 (by decide)) (hT 11 (by decide)), rs_sum (hT 12 (by decide)) (hT 13 (by decide)) (hT 14 (by decide)) (hT 15 (by decide))]
  generalize (P (5 * x)).toInt = a
  generalize (P (5 * x + 1)).toInt = b
  generalize (P (5 * x + 2)).toInt = c
  generalize (P (5 * x + 3)).toInt = d
  generalize (P (5 * y)).toInt = e
  generalize (P (5 * y + 1)).toInt = f
  generalize (P (5 * y + 2)).toInt = g
  generalize (P (5 * y + 3)).toInt = i
  refine ⟨?_, ?_, ?_, ?_, rfl⟩
  · show rs_L (e * a + 2 * f * b + 3 * g * c + 6 * i * d) = _
    exact congrArg rs_L (by unfold rs_t0; grind)
  · show rs_L (f * a + e * b + 3 * i * c + 3 * g * d) = _
    exact congrArg rs_L (by unfold rs_t1; grind)
  · show rs_L (g * a + 2 * i * b + e * c + 2 * f * d) = _
    exact congrArg rs_L (by unfold rs_t2; grind)
  · show rs_L (i * a + g * b + f * c + e * d) = _
    exact congrArg rs_L (by unfold rs_t3; grind)
/-- bounds of a product -/
theorem rs_tb4 {a b c d w x y z K : Int} (ha : -K ≤ a ∧ a ≤ K) (hb : -K ≤ b ∧ b ≤ K) (hc : -K ≤ c ∧ c ≤ K) (hd : -K ≤ d ∧ d ≤ K) (hw : rs_bd w) (hx : rs_bd x) (hy : rs_bd y) (hz : rs_bd z) :
    (-(K * 360) ≤ rs_t0 a b c d w x y z ∧ rs_t0 a b c d w x y z ≤ K * 360) ∧ (-(K * 360) ≤ rs_t1 a b c d w x y z ∧ rs_t1 a b c d w x y z ≤ K * 360) ∧ (-(K * 360) ≤ rs_t2 a b c d w x y z ∧ rs_t2 a b c d w x y z ≤ K * 360) ∧ (-(K * 360) ≤ rs_t3 a b c d w x y z ∧ rs_t3 a b c d w x y z ≤ K * 360) := by
  have aw := rs_mb ha.1 ha.2 hw.1 hw.2
  have ax := rs_mb ha.1 ha.2 hx.1 hx.2
  have ay := rs_mb ha.1 ha.2 hy.1 hy.2
  have az := rs_mb ha.1 ha.2 hz.1 hz.2
  have bw := rs_mb hb.1 hb.2 hw.1 hw.2
  have bx := rs_mb hb.1 hb.2 hx.1 hx.2
  have by' := rs_mb hb.1 hb.2 hy.1 hy.2
  have bz := rs_mb hb.1 hb.2 hz.1 hz.2
  have cw := rs_mb hc.1 hc.2 hw.1 hw.2
  have cx := rs_mb hc.1 hc.2 hx.1 hx.2
  have cy := rs_mb hc.1 hc.2 hy.1 hy.2
  have cz := rs_mb hc.1 hc.2 hz.1 hz.2
  have dw := rs_mb hd.1 hd.2 hw.1 hw.2
  have dx := rs_mb hd.1 hd.2 hx.1 hx.2
  have dy := rs_mb hd.1 hd.2 hy.1 hy.2
  have dz := rs_mb hd.1 hd.2 hz.1 hz.2
  unfold rs_t0 rs_t1 rs_t2 rs_t3
  rw [Int.mul_assoc 2 b x, Int.mul_assoc 3 c y, Int.mul_assoc 6 d z, Int.mul_assoc 3 c z, Int.mul_assoc 3 d y, Int.mul_assoc 2 b z, Int.mul_assoc 2 d x]
  generalize a * w = t1 at *
  generalize a * x = t2 at *
  generalize a * y = t3 at *
  generalize a * z = t4 at *
  generalize b * w = t5 at *
  generalize b * x = t6 at *
  generalize b * y = t7 at *
  generalize b * z = t8 at *
  generalize c * w = t9 at *
  generalize c * x = t10 at *
  generalize c * y = t11 at *
  generalize c * z = t12 at *
  generalize d * w = t13 at *
  generalize d * x = t14 at *
  generalize d * y = t15 at *
  generalize d * z = t16 at *
  refine ⟨⟨?_, ?_⟩, ⟨?_, ?_⟩, ⟨?_, ?_⟩, ⟨?_, ?_⟩⟩ <;> omega
theorem rs_kk {z K : Int} (h1 : -(K * 360) ≤ z) (h2 : z ≤ K * 360) (hK : K * 360 < 562949953421312) : rs_s z := ⟨by omega, by omega⟩
theorem i_vc_multiply {k : Nat} {u : SX} {v : SY} (I : i_Rel k u v) (hk : k + 4 ≤ 2048) (v1 : Int32) (v2 : Int32) (v3 : Int32) : wpX_multiply (fun r u' => wpY_multiply (fun r' v' => r' = r ∧ i_Rel (k + 4) u' v') v v1 v2 v3) u v1 v2 v3 := by
  obtain ⟨a, b, c, d, m, p, q, P⟩ := u
  obtain ⟨P', M, T, C⟩ := v
  have e : P = P' := I.1
  have hI : rs_Inv P' := I.2
  subst e
  unfold wpX_multiply
  dsimp only
  rcases rs_reg v1 with ⟨r, hr, rfl⟩ | hb
  · rcases rs_reg v2 with ⟨x, hx, rfl⟩ | hb
    · rcases rs_reg v3 with ⟨y, hy, rfl⟩ | hb
      · have gx := hI x hx
        have gy := hI y hy
        have mm := rs_mm hI hx hy
        have B := rs_tb4 gx.1 gx.2.1 gx.2.2.1 gx.2.2.2.1 gy.1 gy.2.1 gy.2.2.1 gy.2.2.2.1
        obtain ⟨⟨a1, a2⟩, ⟨b1, b2⟩, ⟨c1, c2⟩, ⟨d1, d2⟩⟩ := B
        obtain ⟨w, P', hI', SX, SY⟩ := rs_ST hr hI (m := (P (5 * x + 4)).toInt * (P (5 * y + 4)).toInt) (rs_kk a1 a2 (by decide)) (rs_kk b1 b2 (by decide)) (rs_kk c1 c2 (by decide)) (rs_kk d1 d2 (by decide)) ⟨by omega, by omega⟩ (by omega)
        refine rs_Xg hr (br_t rfl (rs_Xg hx (br_t rfl (rs_Xg hy (br_t rfl (rs_Xload hx ?_))))))
        simp only [rs_v0 hy, rs_v1 hy, rs_v2 hy, rs_v3 hy, rs_v4 hy, rs_c0 hy, rs_c1 hy, rs_c2 hy, rs_c3 hy, rs_c4 hy, true_and, forall_eq, rs_to]
        refine rs_Xtimes ?_
        dsimp only
        rw [rs_mul]
        refine SX _ p q (fun x1 x2 x3 x4 x5 => ?_)
        unfold wpY_multiply
        dsimp only
        refine rs_Yar hr hx hy (br_f rs_01 (rs_Yprod hI hx hy (fun M' T' hM => ?_)))
        exact SY _ M' T' C hM (fun M'' => ⟨rfl, rs_rel hI'⟩)
      · refine rs_Xg hr (br_t rfl (rs_Xg hx (br_t rfl (rs_Xb hb (br_f rs_01 ?_)))))
        unfold wpY_multiply wpY_areRegisters
        dsimp only
        exact rs_Yg hr (br_f rs_01 (rs_Yg hx (br_f rs_01 (rs_Yb hb (br_t rfl (br_t rfl ⟨rfl, rs_rel hI⟩))))))
    · refine rs_Xg hr (br_t rfl (rs_Xb hb (br_f rs_01 ?_)))
      unfold wpY_multiply wpY_areRegisters
      dsimp only
      exact rs_Yg hr (br_f rs_01 (rs_Yb hb (br_t rfl (br_t rfl ⟨rfl, rs_rel hI⟩))))
  · refine rs_Xb hb (br_f rs_01 ?_)
    unfold wpY_multiply wpY_areRegisters
    dsimp only
    exact rs_Yb hb (br_t rfl (br_t rfl ⟨rfl, rs_rel hI⟩))
theorem i_vc_inverse {k : Nat} {u : SX} {v : SY} (I : i_Rel k u v) (hk : k + 4 ≤ 2048) (v1 : Int32) (v2 : Int32) : wpX_inverse (fun r u' => wpY_inverse (fun r' v' => r' = r ∧ i_Rel (k + 4) u' v') v v1 v2) u v1 v2 := by
  obtain ⟨a, b, c, d, m, p, q, P⟩ := u
  obtain ⟨P', M, T, C⟩ := v
  have e : P = P' := I.1
  have hI : rs_Inv P' := I.2
  subst e
  unfold wpX_inverse
  dsimp only
  rcases rs_reg v1 with ⟨x, hx, rfl⟩ | hb
  · rcases rs_reg v2 with ⟨y, hy, rfl⟩ | hb
    · refine rs_Xg hx (br_t rfl (rs_Xg hy (br_t rfl (rs_Xload hx ?_))))
      simp only [rs_v0 hy, rs_v1 hy, rs_v2 hy, rs_v3 hy, rs_v4 hy, rs_c0 hy, rs_c1 hy, rs_c2 hy, rs_c3 hy, rs_c4 hy, true_and, forall_eq, rs_to]
      refine rs_Xtimes ?_
      dsimp only
      rw [rs_mul]
      have Y (s : Int32) (u' : SX) (hu : ∀ M' T', i_Rel (k + 4) u' (P, M', T', C)) (c1 : ∀ M' T', rs_M5 M' (rs_t0 (P (5 * x)).toInt (P (5 * x + 1)).toInt (P (5 * x + 2)).toInt (P (5 * x + 3)).toInt (P (5 * y)).toInt (P (5 * y + 1)).toInt (P (5 * y + 2)).toInt (P (5 * y + 3)).toInt) (rs_t1 (P (5 * x)).toInt (P (5 * x + 1)).toInt (P (5 * x + 2)).toInt (P (5 * x + 3)).toInt (P (5 * y)).toInt (P (5 * y + 1)).toInt (P (5 * y + 2)).toInt (P (5 * y + 3)).toInt) (rs_t2 (P (5 * x)).toInt (P (5 * x + 1)).toInt (P (5 * x + 2)).toInt (P (5 * x + 3)).toInt (P (5 * y)).toInt (P (5 * y + 1)).toInt (P (5 * y + 2)).toInt (P (5 * y + 3)).toInt) (rs_t3 (P (5 * x)).toInt (P (5 * x + 1)).toInt (P (5 * x + 2)).toInt (P (5 * x + 3)).toInt (P (5 * y)).toInt (P (5 * y + 1)).toInt (P (5 * y + 2)).toInt (P (5 * y + 3)).toInt) ((P (5 * x + 4)).toInt * (P (5 * y + 4)).toInt) → (((M' 0) = (M' 4) → ((((M' 1) = 0 → ((((M' 2) = 0 → ((((M' 3) = 0 → (1 = s ∧ i_Rel (k + 4) u' (P, M', T', C))) ∧ (¬ (M' 3) = 0 → (0 = s ∧ i_Rel (k + 4) u' (P, M', T', C)))))) ∧ (¬ (M' 2) = 0 → (0 = s ∧ i_Rel (k + 4) u' (P, M', T', C)))))) ∧ (¬ (M' 1) = 0 → (0 = s ∧ i_Rel (k + 4) u' (P, M', T', C)))))) ∧ (¬ (M' 0) = (M' 4) → (0 = s ∧ i_Rel (k + 4) u' (P, M', T', C))))) :
          wpY_inverse (fun r' v' => r' = s ∧ i_Rel (k + 4) u' v') (P, M, T, C) (nI x) (nI y) := by
        unfold wpY_inverse
        dsimp only
        exact rs_Yg hx (br_f rs_01 (rs_Yg hy (br_f rs_01 (rs_Yprod hI hx hy (fun M' T' hM => c1 M' T' hM)))))
      refine br_c (fun k1 => br_c (fun k2 => br_c (fun k3 => br_c (fun k4 => ?_) (fun k4 => ?_)) (fun k3 => ?_)) (fun k2 => ?_)) (fun k1 => ?_)
      · refine Y 1 _ (fun _ _ => rs_rel hI) (fun M' T' hM => ?_)
        rw [hM.1, hM.2.1, hM.2.2.1, hM.2.2.2.1, hM.2.2.2.2]
        exact br_t k1 (br_t k2 (br_t k3 (br_t k4 ⟨rfl, rs_rel hI⟩)))
      · refine Y 0 _ (fun _ _ => rs_rel hI) (fun M' T' hM => ?_)
        rw [hM.1, hM.2.1, hM.2.2.1, hM.2.2.2.1, hM.2.2.2.2]
        exact br_t k1 (br_t k2 (br_t k3 (br_f k4 ⟨rfl, rs_rel hI⟩)))
      · refine Y 0 _ (fun _ _ => rs_rel hI) (fun M' T' hM => ?_)
        rw [hM.1, hM.2.1, hM.2.2.1, hM.2.2.2.1, hM.2.2.2.2]
        exact br_t k1 (br_t k2 (br_f k3 ⟨rfl, rs_rel hI⟩))
      · refine Y 0 _ (fun _ _ => rs_rel hI) (fun M' T' hM => ?_)
        rw [hM.1, hM.2.1, hM.2.2.1, hM.2.2.2.1, hM.2.2.2.2]
        exact br_t k1 (br_f k2 ⟨rfl, rs_rel hI⟩)
      · refine Y 0 _ (fun _ _ => rs_rel hI) (fun M' T' hM => ?_)
        rw [hM.1, hM.2.1, hM.2.2.1, hM.2.2.2.1, hM.2.2.2.2]
        exact br_f k1 ⟨rfl, rs_rel hI⟩
    · refine rs_Xg hx (br_t rfl (rs_Xb hb (br_f rs_01 ?_)))
      unfold wpY_inverse
      dsimp only
      exact rs_Yg hx (br_f rs_01 (rs_Yb hb (br_t rfl ⟨rfl, rs_rel hI⟩)))
  · refine rs_Xb hb (br_f rs_01 ?_)
    unfold wpY_inverse
    dsimp only
    exact rs_Yb hb (br_t rfl ⟨rfl, rs_rel hI⟩)
end
section
/-! Y's determinants -/
/-- the matrix with column k replaced -/
def rs_ce (k : Nat) (F mt : Nat → Int) (j : Nat) : Int := if j % 4 = k then F (j / 4) else mt j
def rs_dt (c : Nat → Int) : Int := (c 0 * c 5 - c 1 * c 4) * (c 10 * c 15 - c 11 * c 14) - (c 0 * c 6 - c 2 * c 4) * (c 9 * c 15 - c 11 * c 13) + (c 0 * c 7 - c 3 * c 4) * (c 9 * c 14 - c 10 * c 13) + (c 1 * c 6 - c 2 * c 5) * (c 8 * c 15 - c 11 * c 12) - (c 1 * c 7 - c 3 * c 5) * (c 8 * c 14 - c 10 * c 12) + (c 2 * c 7 - c 3 * c 6) * (c 8 * c 13 - c 9 * c 12)
theorem rs_Ymin {post : Int64 → Prop} {P : Nat → Int32} {M T C : Nat → Int64} {c : Nat → Int} (hC : ∀ j, j < 16 → C j = rs_L (c j)) {i k p q : Int32} (n1 n2 n3 n4 : Nat) (e1 : 4 * i + p = nI n1) (e2 : 4 * k + q = nI n2) (e3 : 4 * i + q = nI n3) (e4 : 4 * k + p = nI n4) (l1 : n1 < 16) (l2 : n2 < 16) (l3 : n3 < 16) (l4 : n4 < 16)
    (h : post (rs_L (c n1 * c n2 - c n3 * c n4))) : wpY_minor post (P, M, T, C) i k p q := by
  unfold wpY_minor
  dsimp only
  rw [e1, e2, e3, e4, nI_clamp (by omega), nI_clamp (by omega), nI_clamp (by omega), nI_clamp (by omega), hC n1 l1, hC n2 l2, hC n3 l3, hC n4 l4, rs_mul, rs_mul, rs_sub]
  exact ⟨vp_in_nI l1 (by decide), vp_in_nI l2 (by decide), vp_in_nI l3 (by decide), vp_in_nI l4 (by decide), h⟩
theorem rs_Ydx {post : Int64 → SY → Prop} {P : Nat → Int32} {M T C : Nat → Int64} {c : Nat → Int} {x1 x2 : Int32} {n : Nat} (hC : ∀ j, j < 16 → C j = rs_L (c j)) (h : post (rs_L (rs_dt c)) (P, M, T, C)) : wY_determinant_2 post x1 x2 (n + 1) (nI 16) P M T C := by
  refine br_t (nI_le (a := 16) (Nat.le_refl 16) (by decide)) ?_
  refine rs_Ymin hC 0 5 1 4 rfl rfl rfl rfl (by decide) (by decide) (by decide) (by decide) ?_
  refine rs_Ymin hC 10 15 11 14 rfl rfl rfl rfl (by decide) (by decide) (by decide) (by decide) (nm_r (rs_mul _ _) ?_)
  refine rs_Ymin hC 0 6 2 4 rfl rfl rfl rfl (by decide) (by decide) (by decide) (by decide) ?_
  refine rs_Ymin hC 9 15 11 13 rfl rfl rfl rfl (by decide) (by decide) (by decide) (by decide) (nm_r (by rw [rs_mul, rs_sub]) ?_)
  refine rs_Ymin hC 0 7 3 4 rfl rfl rfl rfl (by decide) (by decide) (by decide) (by decide) ?_
  refine rs_Ymin hC 9 14 10 13 rfl rfl rfl rfl (by decide) (by decide) (by decide) (by decide) (nm_r (by rw [rs_mul, rs_add]) ?_)
  refine rs_Ymin hC 1 6 2 5 rfl rfl rfl rfl (by decide) (by decide) (by decide) (by decide) ?_
  refine rs_Ymin hC 8 15 11 12 rfl rfl rfl rfl (by decide) (by decide) (by decide) (by decide) (nm_r (by rw [rs_mul, rs_add]) ?_)
  refine rs_Ymin hC 1 7 3 5 rfl rfl rfl rfl (by decide) (by decide) (by decide) (by decide) ?_
  refine rs_Ymin hC 8 14 10 12 rfl rfl rfl rfl (by decide) (by decide) (by decide) (by decide) (nm_r (by rw [rs_mul, rs_sub]) ?_)
  refine rs_Ymin hC 2 7 3 6 rfl rfl rfl rfl (by decide) (by decide) (by decide) (by decide) ?_
  refine rs_Ymin hC 8 13 9 12 rfl rfl rfl rfl (by decide) (by decide) (by decide) (by decide) ?_
  rw [rs_mul, rs_add]
  exact h
theorem rs_Yd2 {post : Int64 → SY → Prop} {P : Nat → Int32} {M T : Nat → Int64} {mt : Nat → Int} {k x : Nat} (hT : ∀ j, j < 16 → T j = rs_L (mt j)) (hk : k ≤ 4) (hx : x < 6)
    (h : ∀ C', post (rs_L (rs_dt (rs_ce k (fun i => (P (5 * x + i)).toInt) mt))) (P, M, T, C')) :
    ∀ (t i fuel : Nat) (C : Nat → Int64), i + t = 16 → t < fuel → (∀ j, j < i → C j = rs_L (rs_ce k (fun i => (P (5 * x + i)).toInt) mt j)) → wY_determinant_2 post (nI k) (nI x) fuel (nI i) P M T C := by
  intro t
  induction t with
  | zero =>
    intro i fuel C hi hf hC
    obtain ⟨fuel, rfl⟩ : ∃ k, fuel = k + 1 := ⟨fuel - 1, by omega⟩
    have e : i = 16 := by omega
    subst e
    exact rs_Ydx hC (h C)
  | succ t ih =>
    intro i fuel C hi hf hC
    obtain ⟨fuel, rfl⟩ : ∃ k, fuel = k + 1 := ⟨fuel - 1, by omega⟩
    have R : nI i - nI i / 4 * 4 = nI (i % 4) := pk_rem (d := 4) (by omega) (by decide) (by decide)
    have D : nI i / 4 = nI (i / 4) := pk_div (d := 4) (by omega) (by decide) (by decide)
    have z4 : ¬ (4 : Int32) = 0 := by decide
    have iv : vp_in (nI i) 16 := vp_in_nI (by omega) (by decide)
    have S (z : Int) (hz : rs_ce k (fun i => (P (5 * x + i)).toInt) mt i = z) : ∀ j, j < i + 1 → vp_updL C i (rs_L z) j = rs_L (rs_ce k (fun i => (P (5 * x + i)).toInt) mt j) := by
      intro j hj
      by_cases e : j = i
      · subst e
        rw [pk_uLs, hz]
      · rw [pk_uLn e]
        exact hC j (by omega)
    refine br_f (nI_ge (b := 16) (by omega) (by decide)) ⟨z4, ?_⟩
    rw [R, D]
    refine br_c (fun e => ⟨z4, rs_tr (rs_vk (i / 4) hx (by omega)), iv, nm_r (e' := vp_updL C i (rs_L (P (5 * x + i / 4)).toInt)) (by rw [nI_clamp (by omega), rs_ck (i / 4) hx (by omega), rs_to]) (nm_r (nI_1 i) ?_)⟩) (fun e => ⟨iv, iv, nm_r (e' := vp_updL C i (rs_L (mt i))) (by rw [nI_clamp (by omega), hT i (by omega)]) (nm_r (nI_1 i) ?_)⟩)
    · rw [nI_eq (by omega) (by omega)] at e
      exact ih (i + 1) fuel _ (by omega) (by omega) (S _ (if_pos e))
    · rw [nI_eq (by omega) (by omega)] at e
      exact ih (i + 1) fuel _ (by omega) (by omega) (S _ (if_neg e))
theorem rs_Ydet {post : Int64 → SY → Prop} {P : Nat → Int32} {M T C : Nat → Int64} {mt : Nat → Int} {k x : Nat} (hT : ∀ j, j < 16 → T j = rs_L (mt j)) (hk : k ≤ 4) (hx : x < 6)
    (h : ∀ C', post (rs_L (rs_dt (rs_ce k (fun i => (P (5 * x + i)).toInt) mt))) (P, M, T, C')) : wpY_determinant post (P, M, T, C) (nI k) (nI x) :=
  ⟨17, rs_Yd2 hT hk hx h 16 0 17 C (by omega) (by omega) (fun j hj => absurd hj (Nat.not_lt_zero j))⟩
theorem rs_dt4 (F : Nat → Int) (e f g h : Int) : rs_dt (rs_ce 4 F (rs_mt e f g h)) = rs_nm e f g h := by
  show (e * e - (2 * f) * f) * (e * e - (2 * f) * f) - (e * (3 * h) - (3 * g) * f) * ((2 * h) * e - (2 * f) * g) + (e * (3 * g) - (6 * h) * f) * ((2 * h) * f - e * g) + ((2 * f) * (3 * h) - (3 * g) * e) * (g * e - (2 * f) * h) - ((2 * f) * (3 * g) - (6 * h) * e) * (g * f - e * h) + ((3 * g) * (3 * g) - (6 * h) * (3 * h)) * (g * g - (2 * h) * h) = _
  unfold rs_nm rs_p rs_q
  grind
theorem rs_dt0 (F : Nat → Int) (e f g h x0 x1 x2 x3 : Int) (h0 : F 0 = x0) (h1 : F 1 = x1) (h2 : F 2 = x2) (h3 : F 3 = x3) : rs_dt (rs_ce 0 F (rs_mt e f g h)) = rs_t0 (rs_t0 x0 x1 x2 x3 e f (-g) (-h)) (rs_t1 x0 x1 x2 x3 e f (-g) (-h)) (rs_t2 x0 x1 x2 x3 e f (-g) (-h)) (rs_t3 x0 x1 x2 x3 e f (-g) (-h)) (rs_p e f g h) (-rs_q e f g h) 0 0 := by
  subst h0 h1 h2 h3
  show ((F 0) * e - (2 * f) * (F 1)) * (e * e - (2 * f) * f) - ((F 0) * (3 * h) - (3 * g) * (F 1)) * ((2 * h) * e - (2 * f) * g) + ((F 0) * (3 * g) - (6 * h) * (F 1)) * ((2 * h) * f - e * g) + ((2 * f) * (3 * h) - (3 * g) * e) * ((F 2) * e - (2 * f) * (F 3)) - ((2 * f) * (3 * g) - (6 * h) * e) * ((F 2) * f - e * (F 3)) + ((3 * g) * (3 * g) - (6 * h) * (3 * h)) * ((F 2) * g - (2 * h) * (F 3)) = _
  generalize F 0 = x0
  generalize F 1 = x1
  generalize F 2 = x2
  generalize F 3 = x3
  unfold rs_t0 rs_t1 rs_t2 rs_t3 rs_p rs_q
  grind
theorem rs_dt1 (F : Nat → Int) (e f g h x0 x1 x2 x3 : Int) (h0 : F 0 = x0) (h1 : F 1 = x1) (h2 : F 2 = x2) (h3 : F 3 = x3) : rs_dt (rs_ce 1 F (rs_mt e f g h)) = rs_t1 (rs_t0 x0 x1 x2 x3 e f (-g) (-h)) (rs_t1 x0 x1 x2 x3 e f (-g) (-h)) (rs_t2 x0 x1 x2 x3 e f (-g) (-h)) (rs_t3 x0 x1 x2 x3 e f (-g) (-h)) (rs_p e f g h) (-rs_q e f g h) 0 0 := by
  subst h0 h1 h2 h3
  show (e * (F 1) - (F 0) * f) * (e * e - (2 * f) * f) - (e * (3 * h) - (3 * g) * f) * ((F 2) * e - (2 * f) * (F 3)) + (e * (3 * g) - (6 * h) * f) * ((F 2) * f - e * (F 3)) + ((F 0) * (3 * h) - (3 * g) * (F 1)) * (g * e - (2 * f) * h) - ((F 0) * (3 * g) - (6 * h) * (F 1)) * (g * f - e * h) + ((3 * g) * (3 * g) - (6 * h) * (3 * h)) * (g * (F 3) - (F 2) * h) = _
  generalize F 0 = x0
  generalize F 1 = x1
  generalize F 2 = x2
  generalize F 3 = x3
  unfold rs_t0 rs_t1 rs_t2 rs_t3 rs_p rs_q
  grind
theorem rs_dt2 (F : Nat → Int) (e f g h x0 x1 x2 x3 : Int) (h0 : F 0 = x0) (h1 : F 1 = x1) (h2 : F 2 = x2) (h3 : F 3 = x3) : rs_dt (rs_ce 2 F (rs_mt e f g h)) = rs_t2 (rs_t0 x0 x1 x2 x3 e f (-g) (-h)) (rs_t1 x0 x1 x2 x3 e f (-g) (-h)) (rs_t2 x0 x1 x2 x3 e f (-g) (-h)) (rs_t3 x0 x1 x2 x3 e f (-g) (-h)) (rs_p e f g h) (-rs_q e f g h) 0 0 := by
  subst h0 h1 h2 h3
  show (e * e - (2 * f) * f) * ((F 2) * e - (2 * f) * (F 3)) - (e * (F 1) - (F 0) * f) * ((2 * h) * e - (2 * f) * g) + (e * (3 * g) - (6 * h) * f) * ((2 * h) * (F 3) - (F 2) * g) + ((2 * f) * (F 1) - (F 0) * e) * (g * e - (2 * f) * h) - ((2 * f) * (3 * g) - (6 * h) * e) * (g * (F 3) - (F 2) * h) + ((F 0) * (3 * g) - (6 * h) * (F 1)) * (g * g - (2 * h) * h) = _
  generalize F 0 = x0
  generalize F 1 = x1
  generalize F 2 = x2
  generalize F 3 = x3
  unfold rs_t0 rs_t1 rs_t2 rs_t3 rs_p rs_q
  grind
theorem rs_dt3 (F : Nat → Int) (e f g h x0 x1 x2 x3 : Int) (h0 : F 0 = x0) (h1 : F 1 = x1) (h2 : F 2 = x2) (h3 : F 3 = x3) : rs_dt (rs_ce 3 F (rs_mt e f g h)) = rs_t3 (rs_t0 x0 x1 x2 x3 e f (-g) (-h)) (rs_t1 x0 x1 x2 x3 e f (-g) (-h)) (rs_t2 x0 x1 x2 x3 e f (-g) (-h)) (rs_t3 x0 x1 x2 x3 e f (-g) (-h)) (rs_p e f g h) (-rs_q e f g h) 0 0 := by
  subst h0 h1 h2 h3
  show (e * e - (2 * f) * f) * (e * (F 3) - (F 2) * f) - (e * (3 * h) - (3 * g) * f) * ((2 * h) * (F 3) - (F 2) * g) + (e * (F 1) - (F 0) * f) * ((2 * h) * f - e * g) + ((2 * f) * (3 * h) - (3 * g) * e) * (g * (F 3) - (F 2) * h) - ((2 * f) * (F 1) - (F 0) * e) * (g * f - e * h) + ((3 * g) * (F 1) - (F 0) * (3 * h)) * (g * g - (2 * h) * h) = _
  generalize F 0 = x0
  generalize F 1 = x1
  generalize F 2 = x2
  generalize F 3 = x3
  unfold rs_t0 rs_t1 rs_t2 rs_t3 rs_p rs_q
  grind
end
section
/-! divide and norm -/
theorem rs_Lnm (e f g h : Int) : rs_L (rs_p e f g h) * rs_L (rs_p e f g h) - 2 * rs_L (rs_q e f g h) * rs_L (rs_q e f g h) = rs_L (rs_nm e f g h) := by
  rw [rs_l2, rs_mul, rs_mul, rs_mul, rs_sub, Int.mul_assoc]
  rfl
theorem rs_pq30 {e f g h : Int} (he : rs_bd e) (hf : rs_bd f) (hg : rs_bd g) (hh : rs_bd h) : (-10000 ≤ rs_p e f g h ∧ rs_p e f g h ≤ 10000) ∧ (-10000 ≤ rs_q e f g h ∧ rs_q e f g h ≤ 10000) := by
  have e1 := rs_sqb he.1 he.2
  have e2 := rs_sqb hf.1 hf.2
  have e3 := rs_sqb hg.1 hg.2
  have e4 := rs_sqb hh.1 hh.2
  have e5 := rs_mb he.1 he.2 hf.1 hf.2
  have e6 := rs_mb hg.1 hg.2 hh.1 hh.2
  unfold rs_p rs_q
  omega
theorem rs_nm30 {e f g h : Int} (he : rs_bd e) (hf : rs_bd f) (hg : rs_bd g) (hh : rs_bd h) : -300000000 ≤ rs_nm e f g h ∧ rs_nm e f g h ≤ 300000000 := by
  have pq := rs_pq30 he hf hg hh
  have e1 := rs_sqb pq.1.1 pq.1.2
  have e2 := rs_sqb pq.2.1 pq.2.2
  unfold rs_nm
  omega
theorem rs_Xz {post : Int32 → Prop} {u : SX} {y : Nat} (hy : y < 6) (h1 : (u.2.2.2.2.2.2.2 (5 * y) = 0 ∧ u.2.2.2.2.2.2.2 (5 * y + 1) = 0 ∧ u.2.2.2.2.2.2.2 (5 * y + 2) = 0 ∧ u.2.2.2.2.2.2.2 (5 * y + 3) = 0) → post 1) (h0 : ¬ (u.2.2.2.2.2.2.2 (5 * y) = 0 ∧ u.2.2.2.2.2.2.2 (5 * y + 1) = 0 ∧ u.2.2.2.2.2.2.2 (5 * y + 2) = 0 ∧ u.2.2.2.2.2.2.2 (5 * y + 3) = 0) → post 0) : wpX_isZero post u (nI y) := by
  obtain ⟨a, b, c, d, m, p, q, P⟩ := u
  simp only [wpX_isZero, forall_eq, rs_v0 hy, rs_v1 hy, rs_v2 hy, rs_v3 hy, rs_c0 hy, rs_c1 hy, rs_c2 hy, rs_c3 hy, true_and]
  exact br_c (fun k1 => br_c (fun k2 => br_c (fun k3 => br_c (fun k4 => h1 ⟨k1, k2, k3, k4⟩) (fun k4 => h0 (fun z => k4 z.2.2.2))) (fun k3 => h0 (fun z => k3 z.2.2.1))) (fun k2 => h0 (fun z => k2 z.2.1))) (fun k1 => h0 (fun z => k1 z.1))
theorem rs_Yz {post : Int32 → Prop} {v : SY} {y : Nat} (hy : y < 6) (h1 : (v.1 (5 * y) = 0 ∧ v.1 (5 * y + 1) = 0 ∧ v.1 (5 * y + 2) = 0 ∧ v.1 (5 * y + 3) = 0) → post 1) (h0 : ¬ (v.1 (5 * y) = 0 ∧ v.1 (5 * y + 1) = 0 ∧ v.1 (5 * y + 2) = 0 ∧ v.1 (5 * y + 3) = 0) → post 0) : wpY_isZero post v (nI y) := by
  obtain ⟨P, M, T, C⟩ := v
  simp only [wpY_isZero, rs_v0 hy, rs_v1 hy, rs_v2 hy, rs_v3 hy, rs_c0 hy, rs_c1 hy, rs_c2 hy, rs_c3 hy, true_and]
  exact br_c (fun k1 => br_c (fun k2 => br_c (fun k3 => br_c (fun k4 => h1 ⟨k1, k2, k3, k4⟩) (fun k4 => h0 (fun z => k4 z.2.2.2))) (fun k3 => h0 (fun z => k3 z.2.2.1))) (fun k2 => h0 (fun z => k2 z.2.1))) (fun k1 => h0 (fun z => k1 z.1))
theorem rs_z32 {X : Int32} (h : X.toInt = 0) : X = 0 := by rw [← rs_II X, h]; rfl
/-- X's numbers in a division -/
def rs_w0 (a b c d e f g h n : Int) : Int := rs_t0 (rs_t0 a b c d e f (-g) (-h) * n) (rs_t1 a b c d e f (-g) (-h) * n) (rs_t2 a b c d e f (-g) (-h) * n) (rs_t3 a b c d e f (-g) (-h) * n) (rs_p e f g h) (-rs_q e f g h) 0 0
def rs_w1 (a b c d e f g h n : Int) : Int := rs_t1 (rs_t0 a b c d e f (-g) (-h) * n) (rs_t1 a b c d e f (-g) (-h) * n) (rs_t2 a b c d e f (-g) (-h) * n) (rs_t3 a b c d e f (-g) (-h) * n) (rs_p e f g h) (-rs_q e f g h) 0 0
def rs_w2 (a b c d e f g h n : Int) : Int := rs_t2 (rs_t0 a b c d e f (-g) (-h) * n) (rs_t1 a b c d e f (-g) (-h) * n) (rs_t2 a b c d e f (-g) (-h) * n) (rs_t3 a b c d e f (-g) (-h) * n) (rs_p e f g h) (-rs_q e f g h) 0 0
def rs_w3 (a b c d e f g h n : Int) : Int := rs_t3 (rs_t0 a b c d e f (-g) (-h) * n) (rs_t1 a b c d e f (-g) (-h) * n) (rs_t2 a b c d e f (-g) (-h) * n) (rs_t3 a b c d e f (-g) (-h) * n) (rs_p e f g h) (-rs_q e f g h) 0 0
theorem rs_sc0 (a b c d w x n : Int) : rs_t0 (a * n) (b * n) (c * n) (d * n) w x 0 0 = rs_t0 a b c d w x 0 0 * n := by unfold rs_t0; grind
theorem rs_sc1 (a b c d w x n : Int) : rs_t1 (a * n) (b * n) (c * n) (d * n) w x 0 0 = rs_t1 a b c d w x 0 0 * n := by unfold rs_t1; grind
theorem rs_sc2 (a b c d w x n : Int) : rs_t2 (a * n) (b * n) (c * n) (d * n) w x 0 0 = rs_t2 a b c d w x 0 0 * n := by unfold rs_t2; grind
theorem rs_sc3 (a b c d w x n : Int) : rs_t3 (a * n) (b * n) (c * n) (d * n) w x 0 0 = rs_t3 a b c d w x 0 0 * n := by unfold rs_t3; grind
theorem rs_wb {v0 v1 v2 v3 w x : Int} (h0 : -324000 ≤ v0 ∧ v0 ≤ 324000) (h1 : -324000 ≤ v1 ∧ v1 ≤ 324000) (h2 : -324000 ≤ v2 ∧ v2 ≤ 324000) (h3 : -324000 ≤ v3 ∧ v3 ≤ 324000) (hw : -10000 ≤ w ∧ w ≤ 10000) (hx : -10000 ≤ x ∧ x ≤ 10000) :
    rs_s (rs_t0 v0 v1 v2 v3 w x 0 0) ∧ rs_s (rs_t1 v0 v1 v2 v3 w x 0 0) ∧ rs_s (rs_t2 v0 v1 v2 v3 w x 0 0) ∧ rs_s (rs_t3 v0 v1 v2 v3 w x 0 0) := by
  have a0 := rs_mb h0.1 h0.2 hw.1 hw.2
  have a1 := rs_mb h1.1 h1.2 hw.1 hw.2
  have a2 := rs_mb h2.1 h2.2 hw.1 hw.2
  have a3 := rs_mb h3.1 h3.2 hw.1 hw.2
  have b0 := rs_mb h0.1 h0.2 hx.1 hx.2
  have b1 := rs_mb h1.1 h1.2 hx.1 hx.2
  have b2 := rs_mb h2.1 h2.2 hx.1 hx.2
  have b3 := rs_mb h3.1 h3.2 hx.1 hx.2
  unfold rs_t0 rs_t1 rs_t2 rs_t3
  simp only [Int.mul_zero, Int.mul_assoc]
  refine ⟨⟨?_, ?_⟩, ⟨?_, ?_⟩, ⟨?_, ?_⟩, ⟨?_, ?_⟩⟩ <;> omega
theorem rs_nbd {z : Int} (h : rs_bd z) : rs_bd (-z) := ⟨by have := h.2; omega, by have := h.1; omega⟩
theorem rs_nb5 {z n : Int} (h1 : -(30 * 360) ≤ z) (h2 : z ≤ 30 * 360) (hn : rs_bd n) : -324000 ≤ z * n ∧ z * n ≤ 324000 := by
  have := rs_mb (a := 10800) (b := 30) (by omega) (by omega) hn.1 hn.2 (x := z) (y := n)
  omega
theorem rs_wall {a b c d e f g h n : Int} (ha : rs_bd a) (hb : rs_bd b) (hc : rs_bd c) (hd : rs_bd d) (he : rs_bd e) (hf : rs_bd f) (hg : rs_bd g) (hh : rs_bd h) (hn : rs_bd n) :
    rs_s (rs_w0 a b c d e f g h n) ∧ rs_s (rs_w1 a b c d e f g h n) ∧ rs_s (rs_w2 a b c d e f g h n) ∧ rs_s (rs_w3 a b c d e f g h n) := by
  have B := rs_tb4 ha hb hc hd he hf (rs_nbd hg) (rs_nbd hh)
  have pq := rs_pq30 he hf hg hh
  obtain ⟨⟨a1, a2⟩, ⟨b1, b2⟩, ⟨c1, c2⟩, ⟨d1, d2⟩⟩ := B
  exact rs_wb (rs_nb5 a1 a2 hn) (rs_nb5 b1 b2 hn) (rs_nb5 c1 c2 hn) (rs_nb5 d1 d2 hn) pq.1 ⟨by omega, by omega⟩
theorem rs_mnm {m N : Int} (hm : rs_bd m) (hN : -300000000 ≤ N ∧ N ≤ 300000000) : rs_s (m * N) := by
  have := rs_mb hm.1 hm.2 hN.1 hN.2
  exact ⟨by omega, by omega⟩
theorem rs_Y40 {post : Int32 → SY → Prop} {P : Nat → Int32} {M T C : Nat → Int64} {x y : Nat} {x1 : Int32} {mt : Nat → Int} (N : Int) (hT : ∀ j, j < 16 → T j = rs_L (mt j)) (hx : x < 6) (hy : y < 6)
    (h : ∀ M' C', rs_M5 M' (rs_dt (rs_ce 0 (fun i => (P (5 * x + i)).toInt) mt) * (P (5 * y + 4)).toInt) (rs_dt (rs_ce 1 (fun i => (P (5 * x + i)).toInt) mt) * (P (5 * y + 4)).toInt) (rs_dt (rs_ce 2 (fun i => (P (5 * x + i)).toInt) mt) * (P (5 * y + 4)).toInt) (rs_dt (rs_ce 3 (fun i => (P (5 * x + i)).toInt) mt) * (P (5 * y + 4)).toInt) (N * (P (5 * x + 4)).toInt) → wpY_take (fun r_27 u => match u with | (a_parts_28, a_made_29, a_matrix_30, a_changed_31) => (post r_27 (a_parts_28, a_made_29, a_matrix_30, a_changed_31))) (P, M', T, C') x1) :
    wY_divide_40 post x1 (nI x) (nI y) (rs_L N) 5 0 P M T C := by
  have vy : vp_in (5 * nI y + 4) 30 := rs_tr (rs_v4 hy)
  have e (k : Nat) (hk : k < 5) (Q : Nat → Int64) (D : Int) : vp_updL Q (nI k).toNatClampNeg (rs_L D * (P (5 * nI y + 4).toNatClampNeg).toInt64) = vp_updL Q k (rs_L (D * (P (5 * y + 4)).toInt)) := by
    rw [rs_c4 hy, nI_clamp (by omega), rs_to, rs_mul]
  refine br_f rs_n40 (rs_Ydet (k := 0) hT (by decide) hx (fun C1 => ⟨vy, rs_in5_0, nm_r (e 0 (by decide) _ _) (nm_r rs_a0 ?_)⟩))
  refine br_f rs_n41 (rs_Ydet (k := 1) hT (by decide) hx (fun C2 => ⟨vy, rs_in5_1, nm_r (e 1 (by decide) _ _) (nm_r rs_a1 ?_)⟩))
  refine br_f rs_n42 (rs_Ydet (k := 2) hT (by decide) hx (fun C3 => ⟨vy, rs_in5_2, nm_r (e 2 (by decide) _ _) (nm_r rs_a2 ?_)⟩))
  refine br_f rs_n43 (rs_Ydet (k := 3) hT (by decide) hx (fun C4 => ⟨vy, rs_in5_3, nm_r (e 3 (by decide) _ _) (nm_r rs_a3 ?_)⟩))
  refine br_t rs_y44 ⟨rs_tr (rs_v4 hx), nm_r (by rw [rs_c4 hx, rs_to, rs_mul]) (h _ _ ?_)⟩
  exact ⟨rfl, rfl, rfl, rfl, rfl⟩
theorem i_vc_divide {k : Nat} {u : SX} {v : SY} (I : i_Rel k u v) (hk : k + 4 ≤ 2048) (v1 : Int32) (v2 : Int32) (v3 : Int32) : wpX_divide (fun r u' => wpY_divide (fun r' v' => r' = r ∧ i_Rel (k + 4) u' v') v v1 v2 v3) u v1 v2 v3 := by
  obtain ⟨a, b, c, d, m, p, q, P⟩ := u
  obtain ⟨P', M, T, C⟩ := v
  have e : P = P' := I.1
  have hI : rs_Inv P' := I.2
  subst e
  unfold wpX_divide
  dsimp only
  rcases rs_reg v1 with ⟨r, hr, rfl⟩ | hb
  · rcases rs_reg v2 with ⟨x, hx, rfl⟩ | hb
    · rcases rs_reg v3 with ⟨y, hy, rfl⟩ | hb
      · refine rs_Xg hr (br_t rfl (rs_Xg hx (br_t rfl (rs_Xg hy (br_t rfl (rs_Xz hy (fun z => br_f rs_01 ?_) (fun z => br_t rfl ?_)))))))
        · unfold wpY_divide
          dsimp only
          exact rs_Yar hr hx hy (br_f rs_01 (rs_Yz hy (fun _ => br_f rs_01 ⟨rfl, rs_rel hI⟩) (fun n => absurd z n)))
        · have gx := hI x hx
          have gy := hI y hy
          have mx := rs_bm hI hx
          have W := rs_wall gx.1 gx.2.1 gx.2.2.1 gx.2.2.2.1 gy.1 gy.2.1 gy.2.2.1 gy.2.2.2.1 (rs_bm hI hy)
          have N := rs_nm30 gy.1 gy.2.1 gy.2.2.1 gy.2.2.2.1
          have N0 : (P (5 * x + 4)).toInt * rs_nm (P (5 * y)).toInt (P (5 * y + 1)).toInt (P (5 * y + 2)).toInt (P (5 * y + 3)).toInt ≠ 0 := by
            intro k0
            rcases Int.mul_eq_zero.mp k0 with k1 | k1
            · have := gx.2.2.2.2.1
              omega
            · have k2 := rs_nm0 k1
              exact z ⟨rs_z32 k2.1, rs_z32 k2.2.1, rs_z32 k2.2.2.1, rs_z32 k2.2.2.2⟩
          obtain ⟨w, P', hI', SX, SY⟩ := rs_ST hr hI W.1 W.2.1 W.2.2.1 W.2.2.2 (rs_mnm mx N) N0
          simp only [rs_v0 hy, rs_v1 hy, rs_v2 hy, rs_v3 hy, rs_v4 hy, rs_c0 hy, rs_c1 hy, rs_c2 hy, rs_c3 hy, rs_c4 hy, true_and, forall_eq, rs_to]
          refine rs_Xsq ?_
          dsimp only
          rw [rs_Lnm]
          refine rs_Xload hx ?_
          dsimp only
          rw [rs_neg, rs_neg]
          refine rs_Xtimes ?_
          dsimp only
          rw [rs_mul, rs_mul, rs_mul, rs_mul, rs_mul, rs_neg, rs_l0]
          refine rs_Xtimes ?_
          dsimp only
          refine SX _ _ _ (fun x1 x2 x3 x4 x5 => ?_)
          unfold wpY_divide
          dsimp only
          refine rs_Yar hr hx hy (br_f rs_01 (rs_Yz hy (fun n => absurd n z) (fun _ => br_t rfl (rs_Yset hy (fun T' hT => ?_)))))
          dsimp only
          refine rs_Ydet (k := 4) hT (by decide) hx (fun C1 => ⟨5, ?_⟩)
          rw [rs_dt4]
          refine rs_Y40 _ hT hx hy (fun M' C' hM => ?_)
          refine SY _ M' T' C' ?_ (fun M'' => ⟨rfl, rs_rel hI'⟩)
          rw [rs_dt0 _ _ _ _ _ _ _ _ _ rfl rfl rfl rfl, rs_dt1 _ _ _ _ _ _ _ _ _ rfl rfl rfl rfl, rs_dt2 _ _ _ _ _ _ _ _ _ rfl rfl rfl rfl, rs_dt3 _ _ _ _ _ _ _ _ _ rfl rfl rfl rfl, ← rs_sc0, ← rs_sc1, ← rs_sc2, ← rs_sc3, Int.mul_comm (rs_nm _ _ _ _)] at hM
          exact hM
      · refine rs_Xg hr (br_t rfl (rs_Xg hx (br_t rfl (rs_Xb hb (br_f rs_01 ?_)))))
        unfold wpY_divide wpY_areRegisters
        dsimp only
        exact rs_Yg hr (br_f rs_01 (rs_Yg hx (br_f rs_01 (rs_Yb hb (br_t rfl (br_t rfl ⟨rfl, rs_rel hI⟩))))))
    · refine rs_Xg hr (br_t rfl (rs_Xb hb (br_f rs_01 ?_)))
      unfold wpY_divide wpY_areRegisters
      dsimp only
      exact rs_Yg hr (br_f rs_01 (rs_Yb hb (br_t rfl (br_t rfl ⟨rfl, rs_rel hI⟩))))
  · refine rs_Xb hb (br_f rs_01 ?_)
    unfold wpY_divide wpY_areRegisters
    dsimp only
    exact rs_Yb hb (br_t rfl (br_t rfl ⟨rfl, rs_rel hI⟩))
end
section
/-! norm, and the constructors -/
theorem rs_m4 {m : Int} (h1 : 1 ≤ m) (h2 : m ≤ 30) : 1 ≤ m * m * m * m ∧ m * m * m * m ≤ 810000 := by
  have p1 := Int.mul_pos (a := m) (b := m) (by omega) (by omega)
  have p2 := Int.mul_pos (a := m * m) (b := m) p1 (by omega)
  have p3 := Int.mul_pos (a := m * m * m) (b := m) p2 (by omega)
  have b1 := rs_mb (x := m) (y := m) (a := 30) (b := 30) (by omega) h2 (by omega) h2
  have b2 := rs_mb (x := m * m) (y := m) (a := 900) (b := 30) (by omega) (by omega) (by omega) h2
  have b3 := rs_mb (x := m * m * m) (y := m) (a := 27000) (b := 30) (by omega) (by omega) (by omega) h2
  omega
theorem rs_Ynorm {post : Int32 → SY → Prop} {P : Nat → Int32} {M T C : Nat → Int64} {r : Nat} (hr : r < 6) (N B z : Int) (hN : rs_nm (P (5 * r)).toInt (P (5 * r + 1)).toInt (P (5 * r + 2)).toInt (P (5 * r + 3)).toInt = N) (hB : (P (5 * r + 4)).toInt * (P (5 * r + 4)).toInt * (P (5 * r + 4)).toInt * (P (5 * r + 4)).toInt = B) (nz : ¬ rs_L B = 0) (hz : rs_L N / rs_L B = rs_L z)
    (h : ∀ T' C', ((rs_L N - rs_L N / rs_L B * rs_L B) = 0 → ((900000 < rs_L z → post (-3000000) (P, M, T', C')) ∧ (¬ 900000 < rs_L z → ((-900000 ≤ rs_L z → post (rs_L z).toInt32 (P, M, T', C')) ∧ (¬ -900000 ≤ rs_L z → post (-3000000) (P, M, T', C')))))) ∧ (¬ (rs_L N - rs_L N / rs_L B * rs_L B) = 0 → post (-3000000) (P, M, T', C'))) :
    wpY_norm post (P, M, T, C) (nI r) := by
  unfold wpY_norm
  dsimp only
  refine rs_Yg hr (br_f rs_01 (rs_Yset hr (fun T' hT => ?_)))
  dsimp only
  refine rs_Ydet (k := 4) hT (by decide) hr (fun C' => ?_)
  rw [rs_dt4, hN]
  dsimp only
  refine ⟨rs_tr (rs_v4 hr), nm_r (e' := rs_L (P (5 * r + 4)).toInt) (by rw [rs_c4 hr]; rfl) (nm_r (e' := rs_L B) (by rw [rs_mul, rs_mul, rs_mul, hB]) ⟨nz, nm_r hz ⟨nz, h T' C'⟩⟩)⟩
theorem rs_l9 : (900000 : Int64) = rs_L 900000 := by decide
theorem rs_lm9 : (-900000 : Int64) = rs_L (-900000) := by decide
theorem i_vc_norm {k : Nat} {u : SX} {v : SY} (I : i_Rel k u v) (hk : k + 4 ≤ 2048) (v1 : Int32) : wpX_norm (fun r u' => wpY_norm (fun r' v' => r' = r ∧ i_Rel (k + 4) u' v') v v1) u v1 := by
  obtain ⟨a, b, c, d, m, p, q, P⟩ := u
  obtain ⟨P', M, T, C⟩ := v
  have e : P = P' := I.1
  have hI : rs_Inv P' := I.2
  subst e
  unfold wpX_norm
  dsimp only
  rcases rs_reg v1 with ⟨r, hr, rfl⟩ | hb
  · have g := hI r hr
    have hN := rs_nm30 g.1 g.2.1 g.2.2.1 g.2.2.2.1
    have hB := rs_m4 g.2.2.2.2.1 g.2.2.2.2.2.1
    refine rs_Xg hr (br_t rfl (rs_Xload hr ?_))
    dsimp only
    refine rs_Xsq ?_
    dsimp only
    rw [rs_Lnm, rs_mul, rs_mul, rs_mul]
    generalize eN : rs_nm (P (5 * r)).toInt (P (5 * r + 1)).toInt (P (5 * r + 2)).toInt (P (5 * r + 3)).toInt = N at *
    generalize eB : (P (5 * r + 4)).toInt * (P (5 * r + 4)).toInt * (P (5 * r + 4)).toInt * (P (5 * r + 4)).toInt = B at *
    have rN : rs_r N := ⟨by omega, by omega⟩
    have rB : rs_r B := ⟨by omega, by omega⟩
    have nz : ¬ rs_L B = 0 := fun z => by have := (rs_eq0 rB).mp z; omega
    have ez : rs_L N / rs_L B = rs_L (N.tdiv B) := rs_div rN rB
    have sz : rs_s (N.tdiv B) := rs_ts ⟨by omega, by omega⟩
    have nb := rs_nab sz
    generalize N.tdiv B = z at *
    have lt9 : (900000 : Int64) < rs_L z ↔ 900000 < z := by rw [rs_l9]; exact rs_lt ⟨by omega, by omega⟩ (rs_sr sz)
    have le9 : (-900000 : Int64) ≤ rs_L z ↔ -900000 ≤ z := by rw [rs_lm9]; exact rs_le ⟨by omega, by omega⟩ (rs_sr sz)
    refine nm_e (nm_e (br_f nz ⟨nz, br_c (fun k1 => ⟨nz, nm_r ez (rs_Xsize (rs_sr sz) (br_c (fun k2 => ?_) (fun k2 => ?_)))⟩) (fun k1 => ?_)⟩))
    · have k3 := (pk_lLE (b := 900000) (by omega) (by decide)).mp k2
      exact rs_Ynorm hr N B z eN eB nz ez (fun T' C' => br_t k1 (br_f (fun j => by have := lt9.mp j; omega) (br_t (le9.mpr (by omega)) ⟨rfl, rs_rel hI⟩)))
    · have k3 : ¬ z.natAbs ≤ 900000 := fun j => k2 ((pk_lLE (b := 900000) (by omega) (by decide)).mpr j)
      refine rs_Ynorm hr N B z eN eB nz ez (fun T' C' => br_t k1 (br_c (fun _ => ⟨rfl, rs_rel hI⟩) (fun j => br_f (fun j2 => ?_) ⟨rfl, rs_rel hI⟩)))
      have j3 := le9.mp j2
      have j4 : ¬ 900000 < z := fun j5 => j (lt9.mpr j5)
      omega
    · exact rs_Ynorm hr N B z eN eB nz ez (fun T' C' => br_f k1 ⟨rfl, rs_rel hI⟩)
  · refine rs_Xb hb (br_f rs_01 ?_)
    unfold wpY_norm
    dsimp only
    exact rs_Yb hb (br_t rfl ⟨rfl, rs_rel hI⟩)
/-! the constructors -/
def rs_P0 : Nat → Nat → Int32
  | 0 => fun _ => 0
  | r + 1 => upd (rs_P0 r) (5 * r + 4) 1
theorem rs_P0e {r : Nat} (h : r < 6) : upd (rs_P0 r) (5 * nI r + 4).toNatClampNeg 1 = rs_P0 (r + 1) := by rw [rs_c4 h]; rfl
theorem rs_Xi {post : SX → Prop} {a b c d m p q : Int64} (h : post (a, b, c, d, m, p, q, rs_P0 6)) : ∀ (t r fuel : Nat), r + t = 6 → t < fuel → wX_init_14 post a b c d m p q fuel (nI r) (rs_P0 r) := by
  intro t
  induction t with
  | zero =>
    intro r fuel hs hf
    obtain ⟨fuel, rfl⟩ : ∃ k, fuel = k + 1 := ⟨fuel - 1, by omega⟩
    have e : r = 6 := by omega
    subst e
    exact br_t (nI_le (a := 6) (Nat.le_refl 6) (by decide)) h
  | succ t ih =>
    intro r fuel hs hf
    obtain ⟨fuel, rfl⟩ : ∃ k, fuel = k + 1 := ⟨fuel - 1, by omega⟩
    exact br_f (nI_ge (b := 6) (by omega) (by decide)) ⟨rs_tr (rs_v4 (by omega)), nm_r (rs_P0e (by omega)) (nm_r (nI_1 r) (ih (r + 1) fuel (by omega) (by omega)))⟩
theorem rs_Yi {post : SY → Prop} {M T C : Nat → Int64} (h : post (rs_P0 6, M, T, C)) : ∀ (t r fuel : Nat), r + t = 6 → t < fuel → wY_init_37 post fuel (nI r) (rs_P0 r) M T C := by
  intro t
  induction t with
  | zero =>
    intro r fuel hs hf
    obtain ⟨fuel, rfl⟩ : ∃ k, fuel = k + 1 := ⟨fuel - 1, by omega⟩
    have e : r = 6 := by omega
    subst e
    exact br_t (nI_le (a := 6) (Nat.le_refl 6) (by decide)) h
  | succ t ih =>
    intro r fuel hs hf
    obtain ⟨fuel, rfl⟩ : ∃ k, fuel = k + 1 := ⟨fuel - 1, by omega⟩
    exact br_f (nI_ge (b := 6) (by omega) (by decide)) ⟨rs_tr (rs_v4 (by omega)), nm_r (rs_P0e (by omega)) (nm_r (nI_1 r) (ih (r + 1) fuel (by omega) (by omega)))⟩
theorem rs_Inv0 : rs_Inv (rs_P0 6) := by
  have ok : rs_ok 0 0 0 0 1 := rs_okw ⟨by omega, by omega⟩
  have z : (0 : Int32).toInt = 0 := by decide
  have o : (1 : Int32).toInt = 1 := by decide
  intro r hr
  have c : r = 0 ∨ r = 1 ∨ r = 2 ∨ r = 3 ∨ r = 4 ∨ r = 5 := by omega
  rcases c with rfl | rfl | rfl | rfl | rfl | rfl
  all_goals
    show rs_ok (0 : Int32).toInt (0 : Int32).toInt (0 : Int32).toInt (0 : Int32).toInt (1 : Int32).toInt
    rw [z, o]
    exact ok
theorem i_vc0 : wpX_init (fun u => wpY_init (fun v => i_Rel 0 u v)) :=
  ⟨7, rs_Xi (r := 0) ⟨7, rs_Yi (rs_rel rs_Inv0) 6 0 7 (by omega) (by omega)⟩ 6 7 (by omega) (by omega)⟩
end
