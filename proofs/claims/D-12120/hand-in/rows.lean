section
theorem du_b32 {n : Int} (h1 : -2147483648 ≤ n) (h2 : n < 2147483648) : n.bmod (2 ^ 32) = n := Int.bmod_eq_of_le (by omega) (by omega)
theorem du_b64 {n : Int} (h1 : -9223372036854775808 ≤ n) (h2 : n < 9223372036854775808) : n.bmod (2 ^ 64) = n := Int.bmod_eq_of_le (by omega) (by omega)
theorem du_b8 {n : Int} (h1 : -128 ≤ n) (h2 : n < 128) : n.bmod (2 ^ 8) = n := Int.bmod_eq_of_le (by omega) (by omega)
theorem du_a32 {x y : Int32} {a b : Int} (hx : x.toInt = a) (hy : y.toInt = b) (h1 : -2147483648 ≤ a + b) (h2 : a + b < 2147483648) : (x + y).toInt = a + b := by
  rw [Int32.toInt_add, hx, hy]
  exact du_b32 h1 h2
theorem du_s32 {x y : Int32} {a b : Int} (hx : x.toInt = a) (hy : y.toInt = b) (h1 : -2147483648 ≤ a - b) (h2 : a - b < 2147483648) : (x - y).toInt = a - b := by
  rw [Int32.toInt_sub, hx, hy]
  exact du_b32 h1 h2
theorem du_n32 {x : Int32} {a : Int} (hx : x.toInt = a) (h1 : -2147483648 ≤ -a) (h2 : -a < 2147483648) : (-x).toInt = -a := by
  rw [Int32.toInt_neg, hx]
  exact du_b32 h1 h2
theorem du_a64 {x y : Int64} {a b : Int} (hx : x.toInt = a) (hy : y.toInt = b) (h1 : -9223372036854775808 ≤ a + b) (h2 : a + b < 9223372036854775808) : (x + y).toInt = a + b := by
  rw [Int64.toInt_add, hx, hy]
  exact du_b64 h1 h2
theorem du_s64 {x y : Int64} {a b : Int} (hx : x.toInt = a) (hy : y.toInt = b) (h1 : -9223372036854775808 ≤ a - b) (h2 : a - b < 9223372036854775808) : (x - y).toInt = a - b := by
  rw [Int64.toInt_sub, hx, hy]
  exact du_b64 h1 h2
theorem du_m64 {x y : Int64} {a b : Int} (hx : x.toInt = a) (hy : y.toInt = b) (h1 : -9223372036854775808 ≤ a * b) (h2 : a * b < 9223372036854775808) : (x * y).toInt = a * b := by
  rw [Int64.toInt_mul, hx, hy]
  exact du_b64 h1 h2
theorem du_n64 {x : Int64} {a : Int} (hx : x.toInt = a) (h1 : -9223372036854775808 ≤ -a) (h2 : -a < 9223372036854775808) : (-x).toInt = -a := by
  rw [Int64.toInt_neg, hx]
  exact du_b64 h1 h2
theorem du_l32 {x : Int32} {a : Int} (hx : x.toInt = a) : x.toInt64.toInt = a := by
  rw [Int32.toInt_toInt64, hx]
theorem du_i32 {x : Int64} {a : Int} (hx : x.toInt = a) (h1 : -2147483648 ≤ a) (h2 : a < 2147483648) : x.toInt32.toInt = a := by
  rw [Int64.toInt_toInt32, hx]
  exact du_b32 h1 h2
theorem du_i8 {x : Int32} {a : Int} (hx : x.toInt = a) (h1 : -128 ≤ a) (h2 : a < 128) : x.toInt8.toInt32.toInt = a := by
  rw [Int8.toInt_toInt32, Int32.toInt_toInt8, hx]
  exact du_b8 h1 h2
theorem du_i8e {x : Int32} {a : Int} (hx : x.toInt = a) (h1 : -128 ≤ a) (h2 : a < 128) : x.toInt8.toInt32 = x :=
  Int32.toInt.inj (by rw [du_i8 hx h1 h2, hx])
/-- a quotient by a positive number -/
theorem du_d64 {x y : Int64} {a b : Int} (hx : x.toInt = a) (hy : y.toInt = b) (hb : 0 < b) : (x / y).toInt = a.tdiv b := by
  have hne : y ≠ -1 := by
    intro e
    rw [e] at hy
    have h1 : (-1 : Int64).toInt = -1 := by decide
    omega
  rw [Int64.toInt_div_of_ne_right x y hne, hx, hy]
theorem du_tbd {a b : Int} (hb : 0 < b) : (0 ≤ a → 0 ≤ a.tdiv b ∧ a.tdiv b * b ≤ a) ∧ (a ≤ 0 → a.tdiv b ≤ 0 ∧ a ≤ a.tdiv b * b) := by
  have e := Int.tdiv_mul_add_tmod a b
  constructor
  · intro h
    have h1 := Int.tmod_nonneg b h
    exact ⟨Int.tdiv_nonneg h (by omega), by omega⟩
  · intro h
    have h1 := Int.tmod_nonneg b (show 0 ≤ -a by omega)
    rw [Int.neg_tmod] at h1
    have h2 := Int.tdiv_nonneg (a := -a) (b := b) (by omega) (by omega)
    rw [Int.neg_tdiv] at h2
    exact ⟨by omega, by omega⟩
/-- a remainder, as it is printed -/
theorem du_r64 {x y : Int64} {a b : Int} (hx : x.toInt = a) (hy : y.toInt = b) (hb : 0 < b) : (x - x / y * y).toInt = a.tmod b := by
  have hl := x.toInt_lt
  have hg := x.le_toInt
  rw [hx] at hl hg
  have hq := du_d64 hx hy hb
  have ht := du_tbd (a := a) hb
  have e := Int.tdiv_mul_add_tmod a b
  have hm : -9223372036854775808 ≤ a.tdiv b * b ∧ a.tdiv b * b < 9223372036854775808 ∧ -9223372036854775808 ≤ a - a.tdiv b * b ∧ a - a.tdiv b * b < 9223372036854775808 := by
    rcases Int.le_total 0 a with h | h
    · have h1 := ht.1 h
      have h2 : 0 ≤ a.tdiv b * b := Int.mul_nonneg h1.1 (by omega)
      omega
    · have h1 := ht.2 h
      have h2 : a.tdiv b * b ≤ 0 := Int.mul_nonpos_of_nonpos_of_nonneg h1.1 (by omega)
      omega
  rw [du_s64 hx (du_m64 hq hy hm.1 hm.2.1) hm.2.2.1 hm.2.2.2]
  omega
/-- branches, by the whole numbers -/
theorem du_cLe {x y : Int32} {A B : Prop} {a b : Int} (hx : x.toInt = a) (hy : y.toInt = b) (f : a ≤ b → A) (g : b < a → B) : (x ≤ y → A) ∧ (¬ x ≤ y → B) :=
  ⟨fun h => f (by rw [← hx, ← hy]; exact Int32.le_iff_toInt_le.mp h), fun h => g (by rw [Int32.le_iff_toInt_le, hx, hy] at h; omega)⟩
theorem du_cLt {x y : Int32} {A B : Prop} {a b : Int} (hx : x.toInt = a) (hy : y.toInt = b) (f : a < b → A) (g : b ≤ a → B) : (x < y → A) ∧ (¬ x < y → B) :=
  ⟨fun h => f (by rw [← hx, ← hy]; exact Int32.lt_iff_toInt_lt.mp h), fun h => g (by rw [Int32.lt_iff_toInt_lt, hx, hy] at h; omega)⟩
theorem du_cEq {x y : Int32} {A B : Prop} {a b : Int} (hx : x.toInt = a) (hy : y.toInt = b) (f : a = b → A) (g : a ≠ b → B) : (x = y → A) ∧ (¬ x = y → B) :=
  ⟨fun h => f (by rw [← hx, ← hy, h]), fun h => g (fun e => h (Int32.toInt.inj (by rw [hx, hy, e])))⟩
theorem du_lLe {x y : Int64} {A B : Prop} {a b : Int} (hx : x.toInt = a) (hy : y.toInt = b) (f : a ≤ b → A) (g : b < a → B) : (x ≤ y → A) ∧ (¬ x ≤ y → B) :=
  ⟨fun h => f (by rw [← hx, ← hy]; exact Int64.le_iff_toInt_le.mp h), fun h => g (by rw [Int64.le_iff_toInt_le, hx, hy] at h; omega)⟩
theorem du_lLt {x y : Int64} {A B : Prop} {a b : Int} (hx : x.toInt = a) (hy : y.toInt = b) (f : a < b → A) (g : b ≤ a → B) : (x < y → A) ∧ (¬ x < y → B) :=
  ⟨fun h => f (by rw [← hx, ← hy]; exact Int64.lt_iff_toInt_lt.mp h), fun h => g (by rw [Int64.lt_iff_toInt_lt, hx, hy] at h; omega)⟩
theorem du_lEq {x y : Int64} {A B : Prop} {a b : Int} (hx : x.toInt = a) (hy : y.toInt = b) (f : a = b → A) (g : a ≠ b → B) : (x = y → A) ∧ (¬ x = y → B) :=
  ⟨fun h => f (by rw [← hx, ← hy, h]), fun h => g (fun e => h (Int64.toInt.inj (by rw [hx, hy, e])))⟩
theorem du_ne64 {x : Int64} {a : Int} (hx : x.toInt = a) (h : a ≠ 0) : ¬ x = 0 := by
  intro e
  rw [e] at hx
  have h1 : (0 : Int64).toInt = 0 := by decide
  omega
/-- an index in range, by the whole numbers -/
theorem du_in {x : Int32} {n : Nat} {a : Int} (hx : x.toInt = a) (h1 : 0 ≤ a) (h2 : a < n) : vp_in x n := vp_in_iff.mpr (by omega)
theorem du_cl {x : Int32} {a : Int} (hx : x.toInt = a) : x.toNatClampNeg = a.toNat := by
  show x.toInt.toNat = a.toNat
  rw [hx]
theorem du_nI {x : Int32} {a : Int} (hx : x.toInt = a) (h1 : 0 ≤ a) (h2 : a < 2147483648) : x = nI a.toNat :=
  Int32.toInt.inj (by rw [nI_toInt (by omega), hx]; omega)
/-- powers of ten -/
theorem du_pp (k : Nat) : (0 : Int) < 10 ^ k := Int.pow_pos (by decide)
theorem du_ps (k : Nat) : (10 : Int) ^ (k + 1) = 10 ^ k * 10 := Int.pow_succ 10 k
theorem du_pa (j k : Nat) : (10 : Int) ^ (j + k) = 10 ^ j * 10 ^ k := Int.pow_add 10 j k
theorem du_pm {j k : Nat} (h : j ≤ k) : (10 : Int) ^ j ≤ 10 ^ k := by
  obtain ⟨m, rfl⟩ := Nat.exists_eq_add_of_le h
  rw [du_pa]
  have h1 := du_pp j
  have h2 := du_pp m
  have h3 : (10 : Int) ^ j * 1 ≤ 10 ^ j * 10 ^ m := Int.mul_le_mul_of_nonneg_left (by omega) (by omega)
  omega
theorem du_pl {j k : Nat} (h : (10 : Int) ^ j < 10 ^ k) : j < k := by
  rcases Nat.lt_or_ge j k with h1 | h1
  · exact h1
  · have := du_pm h1
    omega
/-- |x| < b, times a positive number -/
theorem du_mb {x b t : Int} (ht : 0 < t) (h1 : -b < x) (h2 : x < b) : -(b * t) < x * t ∧ x * t < b * t := by
  have h3 : x * t < b * t := Int.mul_lt_mul_of_pos_right h2 ht
  have h4 : (-b) * t < x * t := Int.mul_lt_mul_of_pos_right h1 ht
  rw [Int.neg_mul] at h4
  exact ⟨h4, h3⟩
/-- the product of two bounded numbers -/
theorem du_mm {x y b c : Int} (h1 : -b < x) (h2 : x < b) (h3 : -c < y) (h4 : y < c) : -(b * c) < x * y ∧ x * y < b * c := by
  have hb : 0 < b := by omega
  rcases Int.lt_trichotomy y 0 with h | h | h
  · have h5 := du_mb (t := -y) (by omega) h1 h2
    have h6 : b * (-y) < b * c := Int.mul_lt_mul_of_pos_left (by omega) hb
    simp only [Int.mul_neg] at h5 h6
    omega
  · rw [h, Int.mul_zero]
    have : 0 < b * c := Int.mul_pos hb (by omega)
    omega
  · have h5 := du_mb h h1 h2
    have h6 : b * y < b * c := Int.mul_lt_mul_of_pos_left (by omega) hb
    omega
end
section
theorem du_bz : narrow .boolean (.int 0) = .int 0 ∧ fits .boolean (.int 0) = true := ⟨rfl, rfl⟩
theorem du_bo : narrow .boolean (.int 1) = .int 1 ∧ fits .boolean (.int 1) = true := ⟨rfl, rfl⟩
/-- the hash over the registers -/
def du_h (a1 a2 : Nat → Int32) : Nat → Int32
  | 0 => 0
  | n + 1 => ((31 * du_h a1 a2 n) + (41 * a1 n)) + a2 n
section
variable {pr rm ra ne : Int32} {ma : Int64} {sc mo : Int32} {a1 a2 : Nat → Int32} {a3 : Nat → Int64}
theorem du_isReg {post : Int32 → Prop} {u : St2} {x : Int32} (h1 : ∀ j : Nat, j < 6 → x = nI j → post 1) (h0 : x.toInt < 0 ∨ 5 < x.toInt → post 0) : wpX_isRegister post u x := by
  obtain ⟨pr, rm, ra, ne, ma, sc, mo, a1, a2, a3⟩ := u
  unfold wpX_isRegister
  dsimp only
  refine du_cLt (a := x.toInt) (b := 0) rfl (by decide) (fun h => h0 (Or.inl h)) (fun h => ?_)
  refine du_cLt (a := 5) (b := x.toInt) (by decide) rfl (fun g => h0 (Or.inr g)) (fun g => ?_)
  exact h1 x.toInt.toNat (by omega) (du_nI rfl h (by omega))
theorem du_isRegN {post : Int32 → Prop} {u : St2} {i : Nat} (hi : i < 6) (h : post 1) : wpX_isRegister post u (nI i) :=
  du_isReg (fun _ _ _ => h) (fun g => by rw [nI_toInt (by omega)] at g; omega)
theorem du_coefN {post : Int32 → Prop} {i : Nat} (hi : i < 6) (h : post (a1 i)) : wpX_coefficient post (pr, rm, ra, ne, ma, sc, mo, a1, a2, a3) (nI i) := by
  unfold wpX_coefficient
  dsimp only
  rw [nI_clamp (show i < 2 ^ 31 by omega)]
  exact du_isRegN hi (br_f (by decide) ⟨vp_in_nI hi (by omega), h⟩)
theorem du_expN {post : Int32 → Prop} {i : Nat} (hi : i < 6) (h : post (a2 i)) : wpX_exponent post (pr, rm, ra, ne, ma, sc, mo, a1, a2, a3) (nI i) := by
  unfold wpX_exponent
  dsimp only
  rw [nI_clamp (show i < 2 ^ 31 by omega)]
  exact du_isRegN hi (br_f (by decide) ⟨vp_in_nI hi (by omega), h⟩)
theorem du_nReg {x : Int32} {j : Nat} (h : x.toInt < 0 ∨ 5 < x.toInt) (hj : j < 6) (e : x = nI j) : False := by
  rw [e, nI_toInt (by omega)] at h
  omega
theorem du_coef0 {post : Int32 → Prop} {x : Int32} (h : x.toInt < 0 ∨ 5 < x.toInt) (H : post 0) : wpX_coefficient post (pr, rm, ra, ne, ma, sc, mo, a1, a2, a3) x := by
  unfold wpX_coefficient
  dsimp only
  exact du_isReg (fun j hj e => (du_nReg h hj e).elim) (fun _ => br_t rfl H)
theorem du_exp0 {post : Int32 → Prop} {x : Int32} (h : x.toInt < 0 ∨ 5 < x.toInt) (H : post 0) : wpX_exponent post (pr, rm, ra, ne, ma, sc, mo, a1, a2, a3) x := by
  unfold wpX_exponent
  dsimp only
  exact du_isReg (fun j hj e => (du_nReg h hj e).elim) (fun _ => br_t rfl H)
theorem du_hash {post : Int32 → Prop} (H : post (du_h a1 a2 6)) : wpL_sum post (pr, rm, ra, ne, ma, sc, mo, a1, a2, a3) := by
  unfold wpL_sum
  dsimp only
  refine pk_loop (σ := Unit) (fun n i _ => wL_sum_4 post pr rm ra ne ma sc mo a1 a2 a3 n (du_h a1 a2 i) (nI i)) (fun _ _ => True) 6 0 () (by omega) trivial (fun n _ _ => ?_) (fun n i _ hi _ hw => ?_)
  · exact pk_le 6 6 (fun _ => H) (fun z => absurd z (by omega))
  · exact pk_le 6 i (fun z => absurd z (by omega)) (fun _ => du_coefN hi (du_expN hi (nm_e (nm_r (nI_1 i) (hw () trivial)))))
theorem du_dig {post : Int32 → Prop} {x : Int64} (h3 : ∀ k, k < 19 → (a3 k).toInt = 10 ^ k) (hx : 0 ≤ x.toInt)
    (H : ∀ d : Nat, 1 ≤ d → d ≤ 19 → (d = 1 ∨ (10 : Int) ^ (d - 1) ≤ x.toInt) → x.toInt < 10 ^ d → post (nI d)) :
    wpX_digitsOf post (pr, rm, ra, ne, ma, sc, mo, a1, a2, a3) x := by
  unfold wpX_digitsOf
  dsimp only
  have key : ∀ k d : Nat, d + k = 19 → 1 ≤ d → (d = 1 ∨ (10 : Int) ^ (d - 1) ≤ x.toInt) → wX_digitsOf_2 post x pr rm ra ne ma sc mo a1 a2 a3 (k + 1) (nI d) := by
    intro k
    induction k with
    | zero =>
      intro d hd h1 h2
      have hd' : d = 19 := by omega
      subst hd'
      refine pk_le 19 19 (fun _ => H 19 (by omega) (by omega) h2 ?_) (fun z => absurd z (by omega))
      have h4 := x.toInt_lt
      have e : (10 : Int) ^ 19 = 10000000000000000000 := by decide
      omega
    | succ k ih =>
      intro d hd h1 h2
      refine pk_le 19 d (fun z => absurd z (by omega)) (fun _ => ⟨pk_in d 19 (by omega), ?_⟩)
      rw [nI_clamp (show d < 2 ^ 31 by omega)]
      refine du_lLt rfl (h3 d (by omega)) (fun h => H d h1 (by omega) h2 h) (fun h => nm_r (nI_1 d) ?_)
      exact ih (d + 1) (by omega) (by omega) (Or.inr (by rw [Nat.add_sub_cancel]; exact h))
  exact ⟨19, key 18 1 (by omega) (by omega) (Or.inl rfl)⟩
theorem du_take {post : St2 → Prop} {x : Int64} {e : Int32} (v : Int) (hx : x.toInt = v) (hv : -9000000000000000000 < v)
    (H : ∀ (n : Int32) (m : Int64), (n = 0 ∧ 0 ≤ v ∧ m.toInt = v) ∨ (n = 1 ∧ v < 0 ∧ m.toInt = -v) → post (pr, rm, ra, n, m, e, 0, a1, a2, a3)) :
    wpX_take post (pr, rm, ra, ne, ma, sc, mo, a1, a2, a3) x e := by
  unfold wpX_take
  dsimp only
  have hl := x.toInt_lt
  refine du_lLe (a := 0) (b := v) (by decide) hx (fun h => ?_) (fun h => ?_)
  · exact ⟨du_bz.1, du_bz.2, br_t rfl (H 0 x (Or.inl ⟨rfl, h, hx⟩))⟩
  · exact ⟨du_bo.1, du_bo.2, br_f (by decide) (H 1 (-x) (Or.inr ⟨rfl, h, du_n64 hx (by omega) (by omega)⟩))⟩
theorem du_raise {post : Int32 → St2 → Prop} {x : Int32} (H : post x (pr, rm, ra ||| x, ne, ma, sc, mo, a1, a2, a3)) : wpX_raise post (pr, rm, ra, ne, ma, sc, mo, a1, a2, a3) x := by
  unfold wpX_raise
  dsimp only
  exact nm_e H
theorem du_store {post : St2 → Prop} {j : Nat} (hj : j < 6) (hm : 0 ≤ ma.toInt) (hm2 : ma.toInt < 2147483648) (hs : -20 ≤ sc.toInt ∧ sc.toInt ≤ 20)
    (H : ∀ c : Int32, c.toInt = ma.toInt ∨ c.toInt = -ma.toInt → post (pr, rm, ra, ne, ma, sc, mo, upd a1 j c, upd a2 j sc, a3)) :
    wpX_store post (pr, rm, ra, ne, ma, sc, mo, a1, a2, a3) (nI j) := by
  have main : ∀ z : Int64, z.toInt = ma.toInt ∨ z.toInt = -ma.toInt → wX_store_24 post (nI j) z (nI j) pr rm ra ne ma sc mo a1 a2 a3 := by
    intro z hz
    unfold wX_store_24
    rw [nI_clamp (show j < 2 ^ 31 by omega), du_i8e (x := sc) rfl (by omega) (by omega)]
    refine ⟨vp_in_nI hj (by omega), nm_e ⟨vp_in_nI hj (by omega), nm_e (H _ ?_)⟩⟩
    rcases hz with hz | hz
    · exact Or.inl (du_i32 hz (by omega) (by omega))
    · exact Or.inr (du_i32 hz (by omega) (by omega))
  unfold wpX_store
  dsimp only
  exact ⟨fun _ => main _ (Or.inl rfl), fun _ => main _ (Or.inr (du_n64 rfl (by omega) (by omega)))⟩
theorem du_half {post : Int32 → Prop} {x y : Int64} (H : ∀ r, post r) : wpX_halfOf post (pr, rm, ra, ne, ma, sc, mo, a1, a2, a3) x y := by
  unfold wpX_halfOf
  dsimp only
  exact ⟨fun _ => H _, fun _ => nm_e ⟨fun _ => ⟨fun _ => H _, fun _ => H _⟩, fun _ => ⟨fun _ => H _, fun _ => H _⟩⟩⟩
theorem du_up {post : Int32 → Prop} {x : Int64} {h : Int32} (hn : ne = 0 ∨ ne = 1) (H0 : post 0) (H1 : post 1) : wpX_goesUp post (pr, rm, ra, ne, ma, sc, mo, a1, a2, a3) x h := by
  unfold wpX_goesUp
  dsimp only
  refine ⟨fun _ => H0, fun _ => ⟨fun _ => H1, fun _ => ⟨fun _ => ?_, fun _ => ⟨fun _ => ⟨fun _ => H1, fun _ => H0⟩, fun _ => ⟨fun _ => ⟨fun _ => ⟨fun _ => H0, fun _ => H1⟩, fun _ => ⟨fun _ => H1, fun _ => H0⟩⟩, fun _ => ⟨fun _ => H0, fun _ => H1⟩⟩⟩⟩⟩⟩
  rcases hn with e | e
  · rw [e]
    exact ⟨du_bz.1, H0⟩
  · rw [e]
    exact ⟨du_bo.1, H1⟩
theorem du_118 {post : Int32 → St2 → Prop} {x4 : Int64} {x8 : Int32} (H : ∀ r : Int32, r = 2 ∨ r = 3 → post r (pr, rm, ra, ne, x4, sc, 0, a1, a2, a3)) :
    wX_dropDigits_118 post x4 x8 pr rm ra ne ma sc mo a1 a2 a3 := by
  unfold wX_dropDigits_118
  exact ⟨fun _ => H 3 (Or.inr rfl), fun _ => H 2 (Or.inl rfl)⟩
theorem du_85 {post : Int32 → St2 → Prop} {x2 x4 x6 : Int64} {z0 : Int32} (hn : ne = 0 ∨ ne = 1) (H : ∀ (r : Int32) (m : Int64), r = 2 ∨ r = 3 → m = x4 ∨ m = x4 + 1 → post r (pr, rm, ra, ne, m, sc, 0, a1, a2, a3)) :
    wX_dropDigits_85 post x2 x4 x6 z0 pr rm ra ne ma sc mo a1 a2 a3 := by
  unfold wX_dropDigits_85
  refine ⟨fun _ => du_half (fun r => du_up hn ?_ ?_), fun _ => du_118 (fun r hr => H r x4 hr (Or.inl rfl))⟩
  · exact br_t rfl (du_118 (fun r hr => H r x4 hr (Or.inl rfl)))
  · exact br_f (by decide) (nm_e (du_118 (fun r hr => H r (x4 + 1) hr (Or.inr rfl))))
theorem du_64 {post : Int32 → St2 → Prop} {x2 x4 z0 : Int64} (hn : ne = 0 ∨ ne = 1) (H : ∀ (r : Int32) (m : Int64), r = 2 ∨ r = 3 → m = x4 ∨ m = x4 + 1 → post r (pr, rm, ra, ne, m, sc, 0, a1, a2, a3)) :
    wX_dropDigits_64 post x2 x4 z0 pr rm ra ne ma sc mo a1 a2 a3 := by
  unfold wX_dropDigits_64
  exact ⟨fun _ => ⟨fun _ => du_85 hn H, fun _ => du_85 hn H⟩, fun _ => du_85 hn H⟩
theorem du_43 {post : Int32 → St2 → Prop} {x2 z0 : Int64} (hn : ne = 0 ∨ ne = 1) (H : ∀ (r : Int32) (m : Int64), r = 2 ∨ r = 3 → m = z0 ∨ m = z0 + 1 → post r (pr, rm, ra, ne, m, sc, 0, a1, a2, a3)) :
    wX_dropDigits_43 post x2 z0 pr rm ra ne ma sc mo a1 a2 a3 := by
  unfold wX_dropDigits_43
  exact ⟨fun _ => du_64 hn H, fun h => ⟨h, du_64 hn H⟩⟩
theorem du_26 {post : Int32 → St2 → Prop} {z : Int64} (hn : ne = 0 ∨ ne = 1)
    (H0 : z = 0 → ∀ (r : Int32) (m : Int64), r = 2 ∨ r = 3 → m = 0 ∨ m = 0 + 1 → post r (pr, rm, ra, ne, m, sc, 0, a1, a2, a3))
    (H1 : ¬ z = 0 → ∀ (r : Int32) (m : Int64), r = 2 ∨ r = 3 → m = ma / z ∨ m = ma / z + 1 → post r (pr, rm, ra, ne, m, sc, 0, a1, a2, a3)) :
    wX_dropDigits_26 post z pr rm ra ne ma sc mo a1 a2 a3 := by
  unfold wX_dropDigits_26
  exact ⟨fun h => du_43 hn (H0 h), fun h => ⟨h, du_43 hn (H1 h)⟩⟩
theorem du_drop {post : Int32 → St2 → Prop} {x : Int32} (c : Nat) (hx : x.toInt = c) (hc1 : 1 ≤ c) (hc : c ≤ 100) (h3 : ∀ k, k < 19 → (a3 k).toInt = 10 ^ k) (hn : ne = 0 ∨ ne = 1) (hm : 0 ≤ ma.toInt)
    (hs : -1000 ≤ sc.toInt ∧ sc.toInt ≤ 1000)
    (H : ∀ (r : Int32) (m : Int64) (s : Int32), r = 2 ∨ r = 3 → 0 ≤ m.toInt → (c ≤ 18 → m.toInt ≤ ma.toInt / 10 ^ c + 1) → (18 < c → m.toInt ≤ 1) → s.toInt = sc.toInt + c → post r (pr, rm, ra, ne, m, s, 0, a1, a2, a3)) :
    wpX_dropDigits post (pr, rm, ra, ne, ma, sc, mo, a1, a2, a3) x := by
  unfold wpX_dropDigits
  dsimp only
  refine nm_e ?_
  have hs' : (sc + x).toInt = sc.toInt + c := du_a32 rfl hx (by omega) (by omega)
  refine du_cLe (a := c) (b := 18) hx (by decide) (fun h => ⟨du_in hx (by omega) (by omega), ?_⟩) (fun h => ?_)
  · rw [du_cl hx, Int.toNat_natCast]
    have hu := h3 c (by omega)
    have hp := du_pp c
    have hq : (ma / a3 c).toInt = ma.toInt / 10 ^ c := by rw [du_d64 rfl hu hp, Int.tdiv_eq_ediv_of_nonneg hm]
    have hk : 0 ≤ ma.toInt / 10 ^ c := Int.ediv_nonneg hm (by omega)
    have h10 : (10 : Int) ≤ 10 ^ c := du_pm (j := 1) hc1
    have hk2 : ma.toInt / 10 ^ c * 10 ≤ ma.toInt / 10 ^ c * 10 ^ c := Int.mul_le_mul_of_nonneg_left h10 hk
    have hk3 : ma.toInt / 10 ^ c * 10 ^ c ≤ ma.toInt := Int.ediv_mul_le _ (by omega)
    have hml := ma.toInt_lt
    have hq1 : (ma / a3 c + 1).toInt = ma.toInt / 10 ^ c + 1 := du_a64 hq (by decide) (by omega) (by omega)
    refine du_26 hn (fun z => absurd z (du_ne64 hu (by omega))) (fun _ r m hr hm' => ?_)
    refine H r m _ hr ?_ (fun _ => ?_) (fun z => absurd z (by omega)) hs'
    · rcases hm' with e | e
      · rw [e, hq]
        exact hk
      · rw [e, hq1]
        omega
    · rcases hm' with e | e
      · rw [e, hq]
        omega
      · rw [e, hq1]
        omega
  · refine du_26 hn (fun _ r m hr hm' => ?_) (fun z => absurd rfl z)
    have h01 : m.toInt = 0 ∨ m.toInt = 1 := by
      rcases hm' with e | e
      · rw [e]
        exact Or.inl (by decide)
      · rw [e]
        exact Or.inr (by decide)
    exact H r m _ hr (by omega) (fun z => absurd z (by omega)) (fun _ => by omega) hs'
end
end
section
theorem du_e7 : (10 : Int) ^ 7 = 10000000 := by decide
theorem du_e14 : (10 : Int) ^ 14 = 100000000000000 := by decide
theorem du_e16 : (10 : Int) ^ 16 = 10000000000000000 := by decide
theorem du_e17 : (10 : Int) ^ 17 = 100000000000000000 := by decide
theorem du_e18 : (10 : Int) ^ 18 = 1000000000000000000 := by decide
/-- the exact sum of X at the exponent E and Y at the exponent F, in units of the lower one -/
def du_V (X E Y F : Int) : Int := if E < F then Y * 10 ^ (F - E).toNat + X else X * 10 ^ (E - F).toNat + Y
theorem du_V0 (X E : Int) : du_V X E (-X) E = 0 := by
  unfold du_V
  rw [if_neg (by omega), Int.sub_self]
  show X * 10 ^ 0 + -X = 0
  rw [Int.pow_zero]
  omega
theorem du_Vn (X E Y F : Int) : du_V X E (-Y) F = -(du_V Y F (-X) E) := by
  unfold du_V
  rcases Int.lt_trichotomy E F with h | h | h
  · rw [if_pos h, if_neg (by omega), Int.neg_mul]
    omega
  · subst h
    rw [if_neg (Int.lt_irrefl E), if_neg (Int.lt_irrefl E), Int.sub_self]
    show X * 10 ^ 0 + -Y = -(Y * 10 ^ 0 + -X)
    rw [Int.pow_zero]
    omega
  · rw [if_neg (by omega), if_pos h, Int.neg_mul]
    omega
/-- what a sum leaves: its sign is that of V -/
def du_S (V : Int) (n : Int32) (m : Int64) (s : Int32) : Prop :=
  ((m.toInt = 0 ∧ V = 0 ∧ (n = 0 ∨ n = 1)) ∨ (0 < m.toInt ∧ n = 0 ∧ 0 < V) ∨ (0 < m.toInt ∧ n = 1 ∧ V < 0)) ∧ m.toInt < 2000000000000000000 ∧ -100 ≤ s.toInt ∧ s.toInt ≤ 100
theorem du_Sof {V : Int} {n : Int32} {m : Int64} {s : Int32} (h : (n = 0 ∧ 0 ≤ V ∧ m.toInt = V) ∨ (n = 1 ∧ V < 0 ∧ m.toInt = -V)) (h1 : -2000000000000000000 < V) (h2 : V < 2000000000000000000) (h3 : -100 ≤ s.toInt) (h4 : s.toInt ≤ 100) : du_S V n m s := by
  rcases h with ⟨e, h5, h6⟩ | ⟨e, h5, h6⟩
  · rcases Int.lt_trichotomy V 0 with g | g | g
    · omega
    · exact ⟨Or.inl ⟨by omega, g, Or.inl e⟩, by omega, h3, h4⟩
    · exact ⟨Or.inr (Or.inl ⟨by omega, e, g⟩), by omega, h3, h4⟩
  · exact ⟨Or.inr (Or.inr ⟨by omega, e, h5⟩), by omega, h3, h4⟩
theorem du_S01 {V : Int} {n : Int32} {m : Int64} {s : Int32} (h : du_S V n m s) : (n = 0 ∨ n = 1) ∧ 0 ≤ m.toInt := by
  rcases h.1 with g | g | g
  · exact ⟨g.2.2, by omega⟩
  · exact ⟨Or.inl g.2.1, by omega⟩
  · exact ⟨Or.inr g.2.1, by omega⟩
section
variable {pr rm ra ne : Int32} {ma : Int64} {sc mo : Int32} {a1 a2 : Nat → Int32} {a3 : Nat → Int64}
theorem du_f94 {post : St2 → Prop} {x1 : Int64} {x5 : Int32} {x7 : Int64} {x9 z0 : Int32} (R P : Int) (h1 : x1.toInt = R) (h7 : x7.toInt = P)
    (hR : (10000000000000000 ≤ R ∧ R < 100000000000000000) ∨ (-100000000000000000 < R ∧ R ≤ -10000000000000000)) (hP : -100000000000000 < P ∧ P < 100000000000000)
    (H : ∀ (n : Int32) (m : Int64) (o : Int32), (n = 0 ∧ 0 < R) ∨ (n = 1 ∧ R < 0) → 0 < m.toInt → m.toInt < 2000000000000000000 → post (pr, rm, ra, n, m, x5, o, a1, a2, a3)) :
    wX_sumFar_94 post x1 x5 x7 x9 z0 pr rm ra ne ma sc mo a1 a2 a3 := by
  unfold wX_sumFar_94
  refine du_take (R + P) (du_a64 h1 h7 (by omega) (by omega)) (by omega) (fun n m hnm => ?_)
  dsimp only
  have hb : ((n = 0 ∧ 0 < R) ∨ (n = 1 ∧ R < 0)) ∧ 1 < m.toInt ∧ m.toInt < 2000000000000000000 := by
    rcases hnm with ⟨e, g1, g2⟩ | ⟨e, g1, g2⟩
    · exact ⟨Or.inl ⟨e, by omega⟩, by omega, by omega⟩
    · exact ⟨Or.inr ⟨e, by omega⟩, by omega, by omega⟩
  have hm1 : (m - 1).toInt = m.toInt - 1 := du_s64 rfl (by decide) (by omega) (by omega)
  exact ⟨fun _ => H n m _ hb.1 (by omega) hb.2.2, fun _ => ⟨fun _ => H n m _ hb.1 (by omega) hb.2.2, fun _ => nm_e (H n (m - 1) _ hb.1 (by omega) (by omega))⟩⟩
theorem du_far {post : St2 → Prop} {x1 x3 : Int64} {x5 x6 : Int32} (R N : Int) (q : Nat) (h1 : x1.toInt = R) (h3' : x3.toInt = N) (h6 : x6.toInt = q) (h3 : ∀ k, k < 19 → (a3 k).toInt = 10 ^ k)
    (hR : (10000000000000000 ≤ R ∧ R < 100000000000000000) ∨ (-100000000000000000 < R ∧ R ≤ -10000000000000000)) (hN : -100000000000000 < N ∧ N < 100000000000000)
    (H : ∀ (n : Int32) (m : Int64) (o : Int32), (n = 0 ∧ 0 < R) ∨ (n = 1 ∧ R < 0) → 0 < m.toInt → m.toInt < 2000000000000000000 → post (pr, rm, ra, n, m, x5, o, a1, a2, a3)) :
    wpX_sumFar post (pr, rm, ra, ne, ma, sc, mo, a1, a2, a3) x1 x3 x5 x6 := by
  have m62 : ∀ (P : Int) (x7 : Int64) (z0 : Int32), x7.toInt = P → (-100000000000000 < P ∧ P < 100000000000000) → wX_sumFar_62 post x1 x3 x5 x7 z0 pr rm ra ne ma sc mo a1 a2 a3 := by
    intro P x7 z0 h7 hP
    have m94 : ∀ z : Int32, wX_sumFar_94 post x1 x5 x7 z0 z pr rm ra ne ma sc mo a1 a2 a3 := fun z => du_f94 R P h1 h7 hR hP H
    have m86 : ∀ y z : Int32, wX_sumFar_86 post x1 x5 x7 z0 y z pr rm ra ne ma sc mo a1 a2 a3 := fun y z => ⟨fun _ => m94 0, fun _ => m94 1⟩
    exact ⟨fun _ => ⟨fun _ => m86 0 0, fun _ => m86 1 0⟩, fun _ => ⟨fun _ => m86 0 1, fun _ => m86 1 1⟩⟩
  have m20 : ∀ (P : Int) (x7 : Int64), x7.toInt = P → (-100000000000000 < P ∧ P < 100000000000000) → wX_sumFar_20 post x1 x3 x5 x6 x7 pr rm ra ne ma sc mo a1 a2 a3 := by
    intro P x7 h7 hP
    unfold wX_sumFar_20
    refine du_cLe (a := q) (b := 18) h6 (by decide) (fun h => ⟨du_in h6 (by omega) (by omega), ?_⟩) (fun h => ⟨fun _ => m62 P x7 0 h7 hP, fun _ => m62 P x7 1 h7 hP⟩)
    rw [du_cl h6, Int.toNat_natCast]
    have hp := du_pp q
    exact ⟨du_ne64 (h3 q (by omega)) (by omega), fun _ => m62 P x7 0 h7 hP, fun _ => m62 P x7 1 h7 hP⟩
  unfold wpX_sumFar
  dsimp only
  refine du_cLe (a := q) (b := 18) h6 (by decide) (fun h => ⟨du_in h6 (by omega) (by omega), ?_⟩) (fun h => m20 0 0 (by decide) (by omega))
  rw [du_cl h6, Int.toNat_natCast]
  have hu := h3 q (by omega)
  have hp := du_pp q
  refine ⟨du_ne64 hu (by omega), m20 _ _ (du_d64 h3' hu hp) ?_⟩
  have ht := du_tbd (a := N) hp
  rcases Int.le_total 0 N with g | g
  · have h4 := ht.1 g
    have h5 := Int.mul_le_mul_of_nonneg_left (show (1 : Int) ≤ 10 ^ q by omega) h4.1
    omega
  · have h4 := ht.2 g
    have h5 := Int.mul_le_mul_of_nonpos_left h4.1 (show (1 : Int) ≤ 10 ^ q by omega)
    omega
theorem du_79 {post : St2 → Prop} {x7 x9 : Int64} {x11 x12 x13 : Int32} {z0 : Int64} (B S EB ES : Int) (q : Nat) (h3 : ∀ k, k < 19 → (a3 k).toInt = 10 ^ k)
    (h7 : x7.toInt = B) (h9 : x9.toInt = S) (h11 : x11.toInt = EB) (h12 : x12.toInt = ES) (h13 : x13.toInt = q) (hz : (0 ≤ B ∧ z0.toInt = B) ∨ (B < 0 ∧ z0.toInt = -B))
    (hB : -100000000000000 < B ∧ B < 100000000000000) (hS : -100000000000000 < S ∧ S < 100000000000000) (hEB : -40 ≤ EB ∧ EB ≤ 40) (hES : -40 ≤ ES ∧ ES ≤ 40) (hq : q ≤ 80)
    (H : ∀ (n : Int32) (m : Int64) (s o : Int32), du_S (B * 10 ^ q + S) n m s → post (pr, rm, ra, n, m, s, o, a1, a2, a3)) :
    wX_sum_79 post x7 x9 x11 x12 x13 z0 pr rm ra ne ma sc mo a1 a2 a3 := by
  unfold wX_sum_79
  refine du_dig h3 (by omega) (fun d d1 d2 d3 d4 => ?_)
  dsimp only
  have hd : d ≤ 14 := by
    rcases d3 with e | e
    · omega
    · have g : (10 : Int) ^ (d - 1) < 10 ^ 14 := by
        rw [du_e14]
        omega
      have g2 := du_pl g
      omega
  refine du_lEq h7 (b := 0) (by decide) (fun h => ?_) (fun h => ?_)
  · refine du_take S h9 (by omega) (fun n m hnm => H n m x12 0 ?_)
    rw [h, Int.zero_mul, Int.zero_add]
    exact du_Sof hnm (by omega) (by omega) (by omega) (by omega)
  · have d5 : (10 : Int) ^ (d - 1) ≤ z0.toInt := by
      rcases d3 with e | e
      · rw [e]
        show (10 : Int) ^ 0 ≤ z0.toInt
        rw [Int.pow_zero]
        omega
      · exact e
    have hpq := du_pp q
    have hsum : (nI d + x13).toInt = (d : Int) + q := du_a32 (nI_toInt (by omega)) h13 (by omega) (by omega)
    refine du_cLt (a := 18) (b := (d : Int) + q) (by decide) hsum (fun g => ?_) (fun g => ?_)
    · refine nm_r (pk_sub (a := 17) (show d ≤ 17 by omega)) ⟨vp_in_nI (by omega) (by omega), ?_⟩
      rw [nI_clamp (show 17 - d < 2 ^ 31 by omega)]
      have hu := h3 (17 - d) (by omega)
      have hpu := du_pp (17 - d)
      have e17 : (10 : Int) ^ d * 10 ^ (17 - d) = 100000000000000000 := by
        rw [← du_pa, show d + (17 - d) = 17 by omega, du_e17]
      have e16 : (10 : Int) ^ (d - 1) * 10 ^ (17 - d) = 10000000000000000 := by
        rw [← du_pa, show d - 1 + (17 - d) = 16 by omega, du_e16]
      have e18 : (1000000000000000000 : Int) ≤ 10 ^ (d - 1) * 10 ^ q := by
        rw [← du_pa, ← du_e18]
        exact du_pm (by omega)
      have hlo : (10 : Int) ^ (d - 1) * 10 ^ (17 - d) ≤ z0.toInt * 10 ^ (17 - d) := Int.mul_le_mul_of_nonneg_right d5 (by omega)
      have hhi : z0.toInt * 10 ^ (17 - d) < 10 ^ d * 10 ^ (17 - d) := Int.mul_lt_mul_of_pos_right d4 hpu
      have hqq : (10 : Int) ^ (d - 1) * 10 ^ q ≤ z0.toInt * 10 ^ q := Int.mul_le_mul_of_nonneg_right d5 (by omega)
      have hsc : (x11 - nI (17 - d)).toInt = EB - ((17 - d : Nat) : Int) := du_s32 h11 (nI_toInt (by omega)) (by omega) (by omega)
      have hpl : (x13 - nI (17 - d)).toInt = ((q - (17 - d) : Nat) : Int) := by
        rw [du_s32 h13 (nI_toInt (by omega)) (by omega) (by omega)]
        omega
      rcases hz with ⟨g1, g2⟩ | ⟨g1, g2⟩
      · rw [g2] at hlo hhi hqq
        refine du_far (B * 10 ^ (17 - d)) S (q - (17 - d)) (du_m64 h7 hu (by omega) (by omega)) h9 hpl h3 (by omega) hS (fun n m o hn hm1 hm2 => H n m (x11 - nI (17 - d)) o ?_)
        rcases hn with ⟨e, g3⟩ | ⟨e, g3⟩
        · exact ⟨Or.inr (Or.inl ⟨hm1, e, by omega⟩), hm2, by omega, by omega⟩
        · omega
      · rw [g2] at hlo hhi hqq
        rw [Int.neg_mul] at hlo hhi hqq
        refine du_far (B * 10 ^ (17 - d)) S (q - (17 - d)) (du_m64 h7 hu (by omega) (by omega)) h9 hpl h3 (by omega) hS (fun n m o hn hm1 hm2 => H n m (x11 - nI (17 - d)) o ?_)
        rcases hn with ⟨e, g3⟩ | ⟨e, g3⟩
        · omega
        · exact ⟨Or.inr (Or.inr ⟨hm1, e, by omega⟩), hm2, by omega, by omega⟩
    · refine ⟨du_in h13 (by omega) (by omega), ?_⟩
      rw [du_cl h13, Int.toNat_natCast]
      have hu := h3 q (by omega)
      have e18 : (10 : Int) ^ d * 10 ^ q ≤ 1000000000000000000 := by
        rw [← du_pa, ← du_e18]
        exact du_pm (by omega)
      have hb := du_mb (b := 10 ^ d) (x := B) hpq (by omega) (by omega)
      exact du_take (B * 10 ^ q + S) (du_a64 (du_m64 h7 hu (by omega) (by omega)) h9 (by omega) (by omega)) (by omega) (fun n m hnm => H n m x12 0 (du_Sof hnm (by omega) (by omega) (by omega) (by omega)))
theorem du_54 {post : St2 → Prop} {x7 x9 : Int64} {x11 z0 : Int32} (B S EB ES : Int) (h3 : ∀ k, k < 19 → (a3 k).toInt = 10 ^ k)
    (h7 : x7.toInt = B) (h9 : x9.toInt = S) (h11 : x11.toInt = EB) (h12 : z0.toInt = ES)
    (hB : -100000000000000 < B ∧ B < 100000000000000) (hS : -100000000000000 < S ∧ S < 100000000000000) (hEB : -40 ≤ EB ∧ EB ≤ 40) (hES : -40 ≤ ES ∧ ES ≤ 40) (hle : ES ≤ EB)
    (H : ∀ (n : Int32) (m : Int64) (s o : Int32), du_S (B * 10 ^ (EB - ES).toNat + S) n m s → post (pr, rm, ra, n, m, s, o, a1, a2, a3)) :
    wX_sum_54 post x7 x9 x11 z0 pr rm ra ne ma sc mo a1 a2 a3 := by
  unfold wX_sum_54
  refine nm_e ?_
  have h13 : (x11 - z0).toInt = ((EB - ES).toNat : Int) := by
    rw [du_s32 h11 h12 (by omega) (by omega)]
    omega
  refine du_lLe (a := 0) (by decide) h7 (fun g => ?_) (fun g => ?_)
  · exact du_79 B S EB ES _ h3 h7 h9 h11 h12 h13 (Or.inl ⟨g, h7⟩) hB hS hEB hES (by omega) H
  · exact du_79 B S EB ES _ h3 h7 h9 h11 h12 h13 (Or.inr ⟨g, du_n64 h7 (by omega) (by omega)⟩) hB hS hEB hES (by omega) H
theorem du_sum {post : St2 → Prop} {x y : Int64} {ex ey : Int32} (X E Y F : Int) (h3 : ∀ k, k < 19 → (a3 k).toInt = 10 ^ k)
    (hx : x.toInt = X) (hex : ex.toInt = E) (hy : y.toInt = Y) (hey : ey.toInt = F)
    (hX : -100000000000000 < X ∧ X < 100000000000000) (hY : -100000000000000 < Y ∧ Y < 100000000000000) (hE : -40 ≤ E ∧ E ≤ 40) (hF : -40 ≤ F ∧ F ≤ 40)
    (H : ∀ (n : Int32) (m : Int64) (s o : Int32), du_S (du_V X E Y F) n m s → post (pr, rm, ra, n, m, s, o, a1, a2, a3)) :
    wpX_sum post (pr, rm, ra, ne, ma, sc, mo, a1, a2, a3) x ex y ey := by
  unfold wpX_sum
  dsimp only
  refine ⟨fun h => ?_, fun h => ?_⟩
  · have g : E < F := by
      rw [← hex, ← hey]
      exact Int32.lt_iff_toInt_lt.mp h
    have H' := H
    unfold du_V at H'
    rw [if_pos g] at H'
    have t : wX_sum_54 post y x ey ex pr rm ra ne ma sc mo a1 a2 a3 := du_54 Y X F E h3 hy hx hey hex hY hX hF hE (by omega) H'
    exact br_t h (br_t h (br_t h t))
  · have g : ¬ E < F := by
      rw [← hex, ← hey]
      exact fun z => h (Int32.lt_iff_toInt_lt.mpr z)
    have H' := H
    unfold du_V at H'
    rw [if_neg g] at H'
    have t : wX_sum_54 post x y ex ey pr rm ra ne ma sc mo a1 a2 a3 := du_54 X Y E F h3 hx hy hex hey hX hY hE hF (by omega) H'
    exact br_f h (br_f h (br_f h t))
end
/-- the state's invariant: precision p, the powers of ten, the registers' bounds -/
def du_R (p : Nat) (a1 a2 : Nat → Int32) : Prop := (∀ k, k < 6 → -(10 ^ p : Int) < (a1 k).toInt ∧ (a1 k).toInt < 10 ^ p) ∧ (∀ k, k < 6 → -20 ≤ (a2 k).toInt ∧ (a2 k).toInt ≤ 20)
def du_I (p : Nat) (pr : Int32) (a1 a2 : Nat → Int32) (a3 : Nat → Int64) : Prop := 3 ≤ p ∧ p ≤ 7 ∧ pr = nI p ∧ (∀ k, k < 19 → (a3 k).toInt = 10 ^ k) ∧ du_R p a1 a2
theorem du_R7 {p : Nat} {a1 a2 : Nat → Int32} (hp : p ≤ 7) (h : du_R p a1 a2) {k : Nat} (hk : k < 6) : -10000000 < (a1 k).toInt ∧ (a1 k).toInt < 10000000 ∧ -20 ≤ (a2 k).toInt ∧ (a2 k).toInt ≤ 20 := by
  have h1 := h.1 k hk
  have h2 := h.2 k hk
  have h3 := du_pm hp
  rw [du_e7] at h3
  omega
section
variable {pr rm ra ne : Int32} {ma : Int64} {sc mo : Int32} {a1 a2 : Nat → Int32} {a3 : Nat → Int64}
theorem du_cmp {post : Int32 → St2 → Prop} {p : Nat} (hI : du_I p pr a1 a2 a3) {i j : Nat} (hi : i < 6) (hj : j < 6)
    (H : ∀ (r n : Int32) (m : Int64) (s o : Int32), (r = 0 ∧ du_V (a1 i).toInt (a2 i).toInt (-(a1 j).toInt) (a2 j).toInt = 0) ∨ (r = 1 ∧ 0 < du_V (a1 i).toInt (a2 i).toInt (-(a1 j).toInt) (a2 j).toInt) ∨ (r = -1 ∧ du_V (a1 i).toInt (a2 i).toInt (-(a1 j).toInt) (a2 j).toInt < 0) → post r (pr, rm, ra, n, m, s, o, a1, a2, a3)) :
    wpX_compare post (pr, rm, ra, ne, ma, sc, mo, a1, a2, a3) (nI i) (nI j) := by
  obtain ⟨p1, p2, p3, h3, hR⟩ := hI
  have bi := du_R7 p2 hR hi
  have bj := du_R7 p2 hR hj
  unfold wpX_compare
  dsimp only
  rw [nI_clamp (show i < 2 ^ 31 by omega), nI_clamp (show j < 2 ^ 31 by omega)]
  refine du_isRegN hi (br_f (by decide) (du_isRegN hj (br_f (by decide) ⟨vp_in_nI hi (by omega), vp_in_nI hi (by omega), vp_in_nI hj (by omega), vp_in_nI hj (by omega), ?_⟩)))
  refine du_sum (a1 i).toInt (a2 i).toInt (-(a1 j).toInt) (a2 j).toInt h3 (du_l32 rfl) rfl (du_n64 (du_l32 rfl) (by omega) (by omega)) rfl (by omega) (by omega) (by omega) (by omega) (fun n m s o hS => ?_)
  dsimp only
  rcases hS.1 with ⟨g1, g2, g3⟩ | ⟨g1, g2, g3⟩ | ⟨g1, g2, g3⟩
  · exact br_t (Int64.toInt.inj g1) (H 0 n m s o (Or.inl ⟨rfl, g2⟩))
  · exact br_f (du_ne64 rfl (by omega)) (br_t g2 (H 1 n m s o (Or.inr (Or.inl ⟨rfl, g3⟩))))
  · exact br_f (du_ne64 rfl (by omega)) (br_f (by rw [g2]; decide) (H (-1) n m s o (Or.inr (Or.inr ⟨rfl, g3⟩))))
theorem du_cmpB {post : Int32 → St2 → Prop} {x y : Int32} (h : x.toInt < 0 ∨ 5 < x.toInt) (H : post (-2) (pr, rm, ra, ne, ma, sc, mo, a1, a2, a3)) : wpX_compare post (pr, rm, ra, ne, ma, sc, mo, a1, a2, a3) x y := by
  unfold wpX_compare
  dsimp only
  exact du_isReg (fun j hj e => (du_nReg h hj e).elim) (fun _ => br_t rfl H)
end
end
section
section
variable {pr rm ra ne : Int32} {ma : Int64} {sc mo : Int32} {a1 a2 : Nat → Int32} {a3 : Nat → Int64}
theorem du_66 {post : St2 → Prop} {W : Int32} {p : Nat} (hp : p ≤ 7) (C : Int) (hC : -500 ≤ C ∧ C ≤ 500)
    (H : ∀ (m : Int64) (s : Int32) (d : Nat), 1 ≤ d → d ≤ 19 → 0 ≤ m.toInt → s.toInt = C - d → post (nI p, rm, ra, ne, m, s, mo, a1, a2, a3)) :
    ∀ (k d : Nat) (m : Int64) (s : Int32), p ≤ d + k → 1 ≤ d → d ≤ 19 → 0 ≤ m.toInt → m.toInt < 10 ^ d → s.toInt = C - d → wX_approach_66 post W (nI p) rm ra ne mo a1 a2 a3 (k + 1) (nI d) m s := by
  intro k
  induction k with
  | zero =>
    intro d m s h1 h2 h3 h4 h5 h6
    exact ⟨fun _ => H m s d h2 h3 h4 h6, fun _ => pk_le p d (fun _ => H m s d h2 h3 h4 h6) (fun z => absurd z (by omega))⟩
  | succ k ih =>
    intro d m s h1 h2 h3 h4 h5 h6
    refine ⟨fun _ => H m s d h2 h3 h4 h6, fun _ => pk_le p d (fun _ => H m s d h2 h3 h4 h6) (fun z => nm_e (nm_e (nm_r (nI_1 d) ?_)))⟩
    have g := du_pm (show d ≤ 7 by omega)
    rw [du_e7] at g
    have e1 : (m * 10).toInt = m.toInt * 10 := du_m64 rfl (by decide) (by omega) (by omega)
    have e2 : (s - 1).toInt = s.toInt - 1 := du_s32 rfl (by decide) (by omega) (by omega)
    have e3 := du_ps d
    exact ih (d + 1) (m * 10) (s - 1) (by omega) (by omega) (by omega) (by omega) (by omega) (by omega)
theorem du_9 {post : St2 → Prop} {W : Int32} {p : Nat} (hp : p ≤ 7) (C : Int) (hC : -500 ≤ C ∧ C ≤ 500)
    (H : ∀ (m : Int64) (s : Int32) (d : Nat), 1 ≤ d → d ≤ 19 → 0 ≤ m.toInt → s.toInt = C - d → post (nI p, rm, ra, ne, m, s, mo, a1, a2, a3)) :
    ∀ (k d : Nat) (m : Int64) (s : Int32), d ≤ k + 1 → 1 ≤ d → d ≤ 19 → 0 < m.toInt → m.toInt < 10 ^ d → s.toInt = C - d → wX_approach_9 post W (nI p) rm ra ne mo a1 a2 a3 (k + 1) (nI d) m s := by
  have h10 : (10 : Int64).toInt = 10 := by decide
  have hn0 : ¬ (10 : Int64) = 0 := by decide
  have h0 : (0 : Int64).toInt = 0 := by decide
  have out : ∀ (d : Nat) (m : Int64) (s : Int32), 1 ≤ d → d ≤ 19 → 0 < m.toInt → m.toInt < 10 ^ d → s.toInt = C - d → ∃ fu : Nat, wX_approach_66 post W (nI p) rm ra ne mo a1 a2 a3 fu (nI d) m s :=
    fun d m s g1 g2 g3 g4 g5 => ⟨8, du_66 hp C hC H 7 d m s (by omega) g1 g2 (by omega) g4 g5⟩
  intro k
  induction k with
  | zero =>
    intro d m s h1 h2 h3 h4 h5 h6
    have hd : d = 1 := by omega
    have er : (m - m / 10 * 10).toInt = m.toInt.tmod 10 := du_r64 rfl h10 (by decide)
    rw [Int.tmod_eq_emod_of_nonneg (by omega)] at er
    refine ⟨hn0, du_lEq er h0 (fun g => ?_) (fun g => out d m s h2 h3 h4 h5 h6)⟩
    rw [hd] at h5
    have e1 : (10 : Int) ^ 1 = 10 := by decide
    omega
  | succ k ih =>
    intro d m s h1 h2 h3 h4 h5 h6
    have er : (m - m / 10 * 10).toInt = m.toInt.tmod 10 := du_r64 rfl h10 (by decide)
    rw [Int.tmod_eq_emod_of_nonneg (by omega)] at er
    refine ⟨hn0, du_lEq er h0 (fun g => ?_) (fun g => out d m s h2 h3 h4 h5 h6)⟩
    obtain ⟨c, rfl⟩ : ∃ c, d = c + 1 := ⟨d - 1, by omega⟩
    have e3 := du_ps c
    have eq : (m / 10).toInt = m.toInt / 10 := by rw [du_d64 rfl h10 (by decide), Int.tdiv_eq_ediv_of_nonneg (by omega)]
    have es : (s + 1).toInt = s.toInt + 1 := du_a32 rfl (by decide) (by omega) (by omega)
    have hc : 1 ≤ c := by
      rcases Nat.eq_zero_or_pos c with z | z
      · rw [z] at h5
        have e1 : (10 : Int) ^ (0 + 1) = 10 := by decide
        omega
      · exact z
    have next : wX_approach_38 post (wX_approach_9 post W (nI p) rm ra ne mo a1 a2 a3 (k + 1)) W (nI (c + 1)) (nI p) rm ra ne m s mo a1 a2 a3 :=
      ⟨hn0, nm_e (nm_e (nm_r (pk_m1 c) (ih c (m / 10) (s + 1) (by omega) hc (by omega) (by omega) (by omega) (by omega))))⟩
    exact ⟨fun _ => next, fun _ => ⟨fun _ => out (c + 1) m s h2 h3 h4 h5 h6, fun _ => next⟩⟩
theorem du_appr {post : St2 → Prop} {W : Int32} {p : Nat} (hp : p ≤ 7) (h3 : ∀ k, k < 19 → (a3 k).toInt = 10 ^ k) (hm : 0 < ma.toInt) (hs : -200 ≤ sc.toInt ∧ sc.toInt ≤ 200)
    (H : ∀ (m : Int64) (s : Int32), 0 ≤ m.toInt → -300 ≤ s.toInt ∧ s.toInt ≤ 300 → post (nI p, rm, ra, ne, m, s, mo, a1, a2, a3)) :
    wpX_approach post (nI p, rm, ra, ne, ma, sc, mo, a1, a2, a3) W := by
  unfold wpX_approach
  dsimp only
  refine du_dig h3 (by omega) (fun d d1 d2 d3 d4 => ⟨19, ?_⟩)
  exact du_9 hp (sc.toInt + d) (by omega) (fun m s d g1 g2 g3 g4 => H m s g3 (by omega)) 18 d ma sc (by omega) d1 d2 hm d4 (by omega)
theorem du_155 {post : Int32 → St2 → Prop} {x3 : Int32} {p j : Nat} (hp : p ≤ 7) (hj : j < 6) (hx3 : x3 = 0 ∨ x3 = 2 ∨ x3 = 3) (hm : 0 ≤ ma.toInt) (hm2 : ma.toInt < 10 ^ p)
    (H : ∀ (r n : Int32) (m : Int64) (s o c e : Int32), r = 0 ∨ r = 2 ∨ r = 3 → -(10 ^ p : Int) < c.toInt ∧ c.toInt < 10 ^ p → -20 ≤ e.toInt ∧ e.toInt ≤ 20 → post r (nI p, rm, ra ||| r, n, m, s, o, upd a1 j c, upd a2 j e, a3))
    (H8 : ∀ (n : Int32) (m : Int64) (s o : Int32), post 8 (nI p, rm, ra ||| 8, n, m, s, o, a1, a2, a3)) :
    wX_finish_155 post (nI j) x3 (nI p) rm ra ne ma sc mo a1 a2 a3 := by
  have h8 : wX_finish_173 post (nI p) rm ra ne ma sc mo a1 a2 a3 := du_raise (H8 ne ma sc mo)
  have g := du_pm hp
  rw [du_e7] at g
  unfold wX_finish_155
  refine du_cLt (a := sc.toInt) (b := -20) rfl (by decide) (fun _ => h8) (fun h1 => du_cLe (a := sc.toInt) (b := 20) rfl (by decide) (fun h2 => ?_) (fun _ => h8))
  exact du_store hj hm (by omega) ⟨h1, h2⟩ (fun c hc => du_raise (H x3 ne ma sc mo c sc hx3 (by omega) ⟨h1, h2⟩))
theorem du_143 {post : Int32 → St2 → Prop} {x2 x3 : Int32} {p j : Nat} (hp : p ≤ 7) (hj : j < 6) (hx3 : x3 = 0 ∨ x3 = 2 ∨ x3 = 3) (hm : 0 ≤ ma.toInt) (hm2 : ma.toInt < 10 ^ p)
    (H : ∀ (r n : Int32) (m : Int64) (s o c e : Int32), r = 0 ∨ r = 2 ∨ r = 3 → -(10 ^ p : Int) < c.toInt ∧ c.toInt < 10 ^ p → -20 ≤ e.toInt ∧ e.toInt ≤ 20 → post r (nI p, rm, ra ||| r, n, m, s, o, upd a1 j c, upd a2 j e, a3))
    (H8 : ∀ (n : Int32) (m : Int64) (s o : Int32), post 8 (nI p, rm, ra ||| 8, n, m, s, o, a1, a2, a3)) :
    wX_finish_143 post (nI j) x2 x3 (nI p) rm ra ne ma sc mo a1 a2 a3 := by
  unfold wX_finish_143
  refine ⟨fun _ => du_155 hp hj hx3 hm hm2 H H8, fun _ => nm_e (du_155 hp hj ?_ hm hm2 H H8)⟩
  rcases hx3 with e | e | e
  · rw [e]
    exact Or.inr (Or.inl (by decide))
  · rw [e]
    exact Or.inr (Or.inl (by decide))
  · rw [e]
    exact Or.inr (Or.inr (by decide))
theorem du_73 {post : Int32 → St2 → Prop} {x2 : Int32} {p j : Nat} (hp1 : 3 ≤ p) (hp : p ≤ 7) (hj : j < 6) (h3 : ∀ k, k < 19 → (a3 k).toInt = 10 ^ k) (hn : ne = 0 ∨ ne = 1) (hm : 0 ≤ ma.toInt) (hs : -500 ≤ sc.toInt ∧ sc.toInt ≤ 500)
    (H : ∀ (r n : Int32) (m : Int64) (s o c e : Int32), r = 0 ∨ r = 2 ∨ r = 3 → -(10 ^ p : Int) < c.toInt ∧ c.toInt < 10 ^ p → -20 ≤ e.toInt ∧ e.toInt ≤ 20 → post r (nI p, rm, ra ||| r, n, m, s, o, upd a1 j c, upd a2 j e, a3))
    (H8 : ∀ (n : Int32) (m : Int64) (s o : Int32), post 8 (nI p, rm, ra ||| 8, n, m, s, o, a1, a2, a3)) :
    wX_finish_73 post (nI j) x2 0 (nI p) rm ra ne ma sc mo a1 a2 a3 := by
  unfold wX_finish_73
  refine du_dig h3 hm (fun d d1 d2 d3 d4 => ?_)
  refine pk_le d p (fun z => ?_) (fun z => ?_)
  · have g := du_pm z
    exact du_143 hp hj (Or.inl rfl) hm (by omega) H H8
  · have hx : (nI d - nI p).toInt = ((d - p : Nat) : Int) := by
      rw [pk_sub (by omega), nI_toInt (by omega)]
    refine du_drop (d - p) hx (by omega) (by omega) h3 hn hm (by omega) (fun r m s hr hm0 hm1 _ hs' => ?_)
    dsimp only
    have hp10 := du_pp (d - p)
    have hq : ma.toInt / 10 ^ (d - p) < 10 ^ p := by
      refine Int.ediv_lt_of_lt_mul hp10 ?_
      rw [← du_pa, show p + (d - p) = d by omega]
      exact d4
    have hm2 := hm1 (by omega)
    have hr' : r = 0 ∨ r = 2 ∨ r = 3 := Or.inr hr
    refine ⟨vp_in_nI (by omega) (by omega), ?_⟩
    rw [nI_clamp (show p < 2 ^ 31 by omega)]
    have hup := h3 p (by omega)
    have g := du_pm hp
    rw [du_e7] at g
    have g0 := du_pp p
    refine du_lEq rfl hup (fun e => ⟨by decide, nm_e (nm_e ?_)⟩) (fun e => ?_)
    · have eq : (m / 10).toInt = m.toInt / 10 := by rw [du_d64 (b := 10) rfl (by decide) (by decide), Int.tdiv_eq_ediv_of_nonneg hm0]
      exact du_143 hp hj hr' (by omega) (by omega) H H8
    · exact du_143 hp hj hr' hm0 (by omega) H H8
theorem du_59 {post : Int32 → St2 → Prop} {x2 : Int32} {p j : Nat} (hp1 : 3 ≤ p) (hp : p ≤ 7) (hj : j < 6) (h3 : ∀ k, k < 19 → (a3 k).toInt = 10 ^ k) (hn : ne = 0 ∨ ne = 1) (hm : 0 ≤ ma.toInt) (hz : mo = 0 → 0 < ma.toInt) (hs : -200 ≤ sc.toInt ∧ sc.toInt ≤ 200)
    (H : ∀ (r n : Int32) (m : Int64) (s o c e : Int32), r = 0 ∨ r = 2 ∨ r = 3 → -(10 ^ p : Int) < c.toInt ∧ c.toInt < 10 ^ p → -20 ≤ e.toInt ∧ e.toInt ≤ 20 → post r (nI p, rm, ra ||| r, n, m, s, o, upd a1 j c, upd a2 j e, a3))
    (H8 : ∀ (n : Int32) (m : Int64) (s o : Int32), post 8 (nI p, rm, ra ||| 8, n, m, s, o, a1, a2, a3)) :
    wX_finish_59 post (nI j) x2 (nI p) rm ra ne ma sc mo a1 a2 a3 := by
  unfold wX_finish_59
  refine ⟨fun e => du_appr hp h3 (hz e) hs (fun m s h1 h2 => ?_), fun _ => du_73 hp1 hp hj h3 hn hm (by omega) H H8⟩
  exact du_73 hp1 hp hj h3 hn h1 (by omega) H H8
theorem du_finish {post : Int32 → St2 → Prop} {x2 : Int32} {p j : Nat} (hp1 : 3 ≤ p) (hp : p ≤ 7) (hj : j < 6) (h3 : ∀ k, k < 19 → (a3 k).toInt = 10 ^ k) (hn : ne = 0 ∨ ne = 1) (hm : 0 ≤ ma.toInt) (hs : -200 ≤ sc.toInt ∧ sc.toInt ≤ 200)
    (H : ∀ (r n : Int32) (m : Int64) (s o c e : Int32), r = 0 ∨ r = 2 ∨ r = 3 → -(10 ^ p : Int) < c.toInt ∧ c.toInt < 10 ^ p → -20 ≤ e.toInt ∧ e.toInt ≤ 20 → post r (nI p, rm, ra ||| r, n, m, s, o, upd a1 j c, upd a2 j e, a3))
    (H8 : ∀ (n : Int32) (m : Int64) (s o : Int32), post 8 (nI p, rm, ra ||| 8, n, m, s, o, a1, a2, a3)) :
    wpX_finish post (nI p, rm, ra, ne, ma, sc, mo, a1, a2, a3) (nI j) x2 := by
  have hpp := du_pp p
  have m45 : ∀ z0 : Int32, ma.toInt = 0 → -20 ≤ z0.toInt → z0.toInt ≤ 20 → wX_finish_45 post (nI j) z0 (nI p) rm ra 0 ma sc mo a1 a2 a3 := by
    intro z0 h0 h1 h2
    exact du_store hj hm (by omega) ⟨h1, h2⟩ (fun c hc => du_raise (H 0 0 ma z0 mo c z0 (Or.inl rfl) (by omega) ⟨h1, h2⟩))
  unfold wpX_finish
  dsimp only
  refine du_lEq (b := 0) rfl (by decide) (fun h0 => ⟨fun _ => ?_, fun ho => ?_⟩) (fun h0 => ?_)
  · refine du_cLe (a := -20) (by decide) rfl (fun h1 => du_cLe (b := 20) rfl (by decide) (fun h2 => m45 x2 h0 h1 h2) (fun _ => m45 20 h0 (by decide) (by decide))) (fun _ => m45 (-20) h0 (by decide) (by decide))
  · exact du_59 hp1 hp hj h3 hn hm (fun e => absurd e ho) hs H H8
  · exact du_59 hp1 hp hj h3 hn hm (fun _ => by omega) hs H H8
end
end
section
/-- what an operation answers and leaves: bad, by zero or out of range (the registers as they were), or a stored result -/
def du_O (r ra ra' : Int32) (a1 a2 b1 b2 : Nat → Int32) : Prop :=
  (r = -1 ∧ ra' = ra ∧ b1 = a1 ∧ b2 = a2) ∨ ((r = 4 ∨ r = 8) ∧ ra' = ra ||| r ∧ b1 = a1 ∧ b2 = a2) ∨ ((r = 0 ∨ r = 2 ∨ r = 3) ∧ ra' = ra ||| r)
theorem du_Rup {p j : Nat} {a1 a2 : Nat → Int32} {c e : Int32} (h : du_R p a1 a2) (hc : -(10 ^ p : Int) < c.toInt ∧ c.toInt < 10 ^ p) (he : -20 ≤ e.toInt ∧ e.toInt ≤ 20) : du_R p (upd a1 j c) (upd a2 j e) := by
  refine ⟨fun k hk => ?_, fun k hk => ?_⟩
  · by_cases g : k = j
    · rw [g, pk_us]
      exact hc
    · rw [pk_un g]
      exact h.1 k hk
  · by_cases g : k = j
    · rw [g, pk_us]
      exact he
    · rw [pk_un g]
      exact h.2 k hk
section
variable {pr rm ra ne : Int32} {ma : Int64} {sc mo : Int32} {a1 a2 : Nat → Int32} {a3 : Nat → Int64}
theorem du_d26 {post : St2 → Prop} {x1 x3 : Int64} {x5 : Int32} {x6 z0 : Int64} (D Q : Int) (h6 : x6.toInt = D) (hz : z0.toInt = Q) (hD : 0 ≤ D ∧ D < 10000000) (hQ : 0 < Q) (h5 : -40 ≤ x5.toInt ∧ x5.toInt ≤ 40)
    (h3 : ∀ k, k < 19 → (a3 k).toInt = 10 ^ k)
    (H : ∀ (n : Int32) (m : Int64) (s o : Int32), n = 0 ∨ n = 1 → 0 ≤ m.toInt → -200 ≤ s.toInt ∧ s.toInt ≤ 200 → post (pr, rm, ra, n, m, s, o, a1, a2, a3)) :
    wX_divide_26 post x1 x3 x5 x6 z0 pr rm ra ne ma sc mo a1 a2 a3 := by
  unfold wX_divide_26
  refine du_dig h3 (by omega) (fun d d1 d2 d3 d4 => ?_)
  have hd : d ≤ 7 := by
    rcases d3 with e | e
    · omega
    · have g : (10 : Int) ^ (d - 1) < 10 ^ 7 := by
        rw [du_e7]
        omega
      have g2 := du_pl g
      omega
  refine nm_r (pk_sub (a := 18) (show d ≤ 18 by omega)) ⟨vp_in_nI (by omega) (by omega), ?_⟩
  rw [nI_clamp (show 18 - d < 2 ^ 31 by omega)]
  have hu := h3 (18 - d) (by omega)
  have hpu := du_pp (18 - d)
  have e18 : (10 : Int) ^ d * 10 ^ (18 - d) = 1000000000000000000 := by
    rw [← du_pa, show d + (18 - d) = 18 by omega, du_e18]
  have hb := du_mb (b := 10 ^ d) (x := D) hpu (by omega) (by omega)
  have hnn : 0 ≤ D * 10 ^ (18 - d) := Int.mul_nonneg hD.1 (by omega)
  have hsd : (x6 * a3 (18 - d)).toInt = D * 10 ^ (18 - d) := du_m64 h6 hu (by omega) (by omega)
  have hz0 : ¬ z0 = 0 := du_ne64 hz (by omega)
  have hqq := (du_tbd (a := D * 10 ^ (18 - d)) hQ).1 hnn
  have hsc : (x5 - nI (18 - d)).toInt = x5.toInt - ((18 - d : Nat) : Int) := du_s32 rfl (nI_toInt (by omega)) (by omega) (by omega)
  refine nm_e ⟨hz0, du_take _ (du_d64 hsd hz hQ) (by omega) (fun n m hnm => ?_)⟩
  have hm0 : 0 ≤ m.toInt := by
    rcases hnm with g | g
    · omega
    · omega
  have m107 : ∀ (o z y : Int32), wX_divide_107 post x6 z y pr rm ra n m (x5 - nI (18 - d)) o a1 a2 a3 := fun o z y =>
    ⟨fun _ => H 0 m _ o (Or.inl rfl) hm0 (by omega), fun _ => ⟨fun _ => H 0 m _ o (Or.inl rfl) hm0 (by omega), fun _ => H 1 m _ o (Or.inr rfl) hm0 (by omega)⟩⟩
  have m96 : ∀ (o z : Int32), wX_divide_96 post x3 x6 z pr rm ra n m (x5 - nI (18 - d)) o a1 a2 a3 := fun o z => ⟨fun _ => m107 o 0 z, fun _ => m107 o 1 z⟩
  refine ⟨hz0, fun _ => ⟨du_bz.1, du_bz.2, fun _ => m96 0 0, fun _ => m96 0 1⟩, fun _ => ⟨du_bo.1, du_bo.2, fun _ => m96 1 0, fun _ => m96 1 1⟩⟩
theorem du_divide {post : St2 → Prop} {x y : Int64} {w : Int32} (X Y : Int) (hx : x.toInt = X) (hy : y.toInt = Y) (hX : -10000000 < X ∧ X < 10000000) (hY : -10000000 < Y ∧ Y < 10000000) (hY0 : Y ≠ 0) (h5 : -40 ≤ w.toInt ∧ w.toInt ≤ 40)
    (h3 : ∀ k, k < 19 → (a3 k).toInt = 10 ^ k)
    (H : ∀ (n : Int32) (m : Int64) (s o : Int32), n = 0 ∨ n = 1 → 0 ≤ m.toInt → -200 ≤ s.toInt ∧ s.toInt ≤ 200 → post (pr, rm, ra, n, m, s, o, a1, a2, a3)) :
    wpX_divide post (pr, rm, ra, ne, ma, sc, mo, a1, a2, a3) x y w := by
  have m12 : ∀ (D : Int) (z : Int64), z.toInt = D → 0 ≤ D ∧ D < 10000000 → wX_divide_12 post x y w z pr rm ra ne ma sc mo a1 a2 a3 := by
    intro D z hz hD
    exact du_lLe (a := 0) (by decide) hy (fun g => du_d26 D Y hz hy hD (by omega) h5 h3 H) (fun g => du_d26 D (-Y) hz (du_n64 hy (by omega) (by omega)) hD (by omega) h5 h3 H)
  unfold wpX_divide
  dsimp only
  exact du_lLe (a := 0) (by decide) hx (fun g => m12 X x hx (by omega)) (fun g => m12 (-X) (-x) (du_n64 hx (by omega) (by omega)) (by omega))
/-- the end of an operation -/
theorem du_fin {post : Int32 → St2 → Prop} {p j : Nat} {w n : Int32} {m : Int64} {s o : Int32} (hI : du_I p pr a1 a2 a3) (hj : j < 6) (hn : n = 0 ∨ n = 1) (hm : 0 ≤ m.toInt) (hs : -200 ≤ s.toInt ∧ s.toInt ≤ 200)
    (H : ∀ (r ra' n : Int32) (m : Int64) (s o : Int32) (b1 b2 : Nat → Int32), du_O r ra ra' a1 a2 b1 b2 → du_I p pr b1 b2 a3 → post r (pr, rm, ra', n, m, s, o, b1, b2, a3)) :
    wpX_finish post (pr, rm, ra, n, m, s, o, a1, a2, a3) (nI j) w := by
  obtain ⟨p1, p2, p3, h3, hR⟩ := hI
  subst p3
  refine du_finish p1 p2 hj h3 hn hm hs (fun r n m s o c e hr hc he => ?_) (fun n m s o => ?_)
  · exact H r _ n m s o _ _ (Or.inr (Or.inr ⟨hr, rfl⟩)) ⟨p1, p2, rfl, h3, du_Rup hR hc he⟩
  · exact H 8 _ n m s o _ _ (Or.inr (Or.inl ⟨Or.inr rfl, rfl, rfl, rfl⟩)) ⟨p1, p2, rfl, h3, hR⟩
theorem du_57 {post : Int32 → St2 → Prop} {p d i k : Nat} {x1 : Int32} (hI : du_I p pr a1 a2 a3) (hd : d < 6) (hi : i < 6) (hk : k < 6) (hz : x1 = 3 → ¬ a1 k = 0)
    (H : ∀ (r ra' n : Int32) (m : Int64) (s o : Int32) (b1 b2 : Nat → Int32), du_O r ra ra' a1 a2 b1 b2 → du_I p pr b1 b2 a3 → post r (pr, rm, ra', n, m, s, o, b1, b2, a3)) :
    wX_apply_57 post x1 (nI d) (nI i) (nI k) pr rm ra ne ma sc mo a1 a2 a3 := by
  have h3 := hI.2.2.2.1
  have bi := du_R7 hI.2.1 hI.2.2.2.2 hi
  have bk := du_R7 hI.2.1 hI.2.2.2.2 hk
  have vi : vp_in (nI i) 6 := vp_in_nI hi (by omega)
  have vk : vp_in (nI k) 6 := vp_in_nI hk (by omega)
  have li : (a1 i).toInt64.toInt = (a1 i).toInt := du_l32 rfl
  have lk : (a1 k).toInt64.toInt = (a1 k).toInt := du_l32 rfl
  have f214 : ∀ (w n : Int32) (m : Int64) (s o : Int32), n = 0 ∨ n = 1 → 0 ≤ m.toInt → -200 ≤ s.toInt ∧ s.toInt ≤ 200 → wX_apply_214 post (nI d) w pr rm ra n m s o a1 a2 a3 :=
    fun w n m s o hn hm hs => du_fin hI hd hn hm hs H
  have f204 : ∀ (w : Int32) (y : Int64), -10000000 < y.toInt ∧ y.toInt < 10000000 → wX_apply_204 post (nI d) (nI k) w y (a2 i) (a1 i).toInt64 pr rm ra ne ma sc mo a1 a2 a3 := by
    intro w y hy
    unfold wX_apply_204
    rw [nI_clamp (show k < 2 ^ 31 by omega)]
    refine ⟨vk, du_sum _ _ _ _ h3 li rfl rfl rfl (by omega) (by omega) (by omega) (by omega) (fun n m s o hS => ?_)⟩
    have h01 := du_S01 hS
    have hb := hS.2
    exact f214 w n m s o h01.1 h01.2 (by omega)
  have f180 : ∀ w : Int32, wX_apply_180 post x1 (nI d) (nI i) (nI k) (a1 i).toInt64 (a1 k).toInt64 w pr rm ra ne ma sc mo a1 a2 a3 := by
    intro w
    unfold wX_apply_180
    rw [nI_clamp (show i < 2 ^ 31 by omega)]
    refine ⟨vi, fun _ => f204 w _ ?_, fun _ => f204 w _ (by omega)⟩
    have e := du_n64 lk (by omega) (by omega)
    omega
  unfold wX_apply_57
  rw [nI_clamp (show i < 2 ^ 31 by omega), nI_clamp (show k < 2 ^ 31 by omega)]
  refine ⟨vi, nm_e ⟨vk, nm_e ⟨fun _ => ⟨vi, vk, nm_e ?_⟩, fun _ => ⟨fun e3 => ⟨vi, vk, nm_e ?_⟩, fun _ => ⟨vi, vk, fun _ => ⟨vk, f180 _⟩, fun _ => ⟨vi, f180 _⟩⟩⟩⟩⟩⟩
  · have hw : (a2 i + a2 k).toInt = (a2 i).toInt + (a2 k).toInt := du_a32 rfl rfl (by omega) (by omega)
    have hb := du_mm (x := (a1 i).toInt) (y := (a1 k).toInt) bi.1 bi.2.1 bk.1 bk.2.1
    refine du_take _ (du_m64 li lk (by omega) (by omega)) (by omega) (fun n m hnm => ?_)
    rcases hnm with g | g
    · exact f214 _ n m _ _ (Or.inl g.1) (by omega) (by omega)
    · exact f214 _ n m _ _ (Or.inr g.1) (by omega) (by omega)
  · have hw : (a2 i - a2 k).toInt = (a2 i).toInt - (a2 k).toInt := du_s32 rfl rfl (by omega) (by omega)
    have hne : (a1 k).toInt ≠ 0 := fun z => hz e3 (Int32.toInt.inj z)
    exact du_divide _ _ li lk (by omega) (by omega) hne (by omega) h3 (fun n m s o hn hm hs => f214 _ n m s o hn hm hs)
theorem du_apply {post : Int32 → St2 → Prop} {p : Nat} {x0 x1 x2 x3 : Int32} (hI : du_I p pr a1 a2 a3)
    (H : ∀ (r ra' n : Int32) (m : Int64) (s o : Int32) (b1 b2 : Nat → Int32), du_O r ra ra' a1 a2 b1 b2 → du_I p pr b1 b2 a3 → post r (pr, rm, ra', n, m, s, o, b1, b2, a3)) :
    wpX_apply post (pr, rm, ra, ne, ma, sc, mo, a1, a2, a3) x0 x1 x2 x3 := by
  have bad : post (-1) (pr, rm, ra, ne, ma, sc, mo, a1, a2, a3) := H (-1) ra ne ma sc mo a1 a2 (Or.inl ⟨rfl, rfl, rfl, rfl⟩) hI
  unfold wpX_apply
  dsimp only
  refine ⟨fun _ => bad, fun _ => ⟨fun _ => bad, fun _ => ?_⟩⟩
  refine du_isReg (fun d hd ed => br_f (by decide) ?_) (fun _ => br_t rfl bad)
  refine du_isReg (fun i hi ei => br_f (by decide) ?_) (fun _ => br_t rfl bad)
  refine du_isReg (fun k hk ek => br_f (by decide) ?_) (fun _ => br_t rfl bad)
  subst ed ei ek
  rw [nI_clamp (show k < 2 ^ 31 by omega)]
  refine ⟨fun _ => ⟨vp_in_nI hk (by omega), fun _ => ?_, fun hz => du_57 hI hd hi hk (fun _ => hz) H⟩, fun h3 => du_57 hI hd hi hk (fun e => absurd e h3) H⟩
  exact du_raise (H 4 _ ne ma sc mo a1 a2 (Or.inr (Or.inl ⟨Or.inl rfl, rfl, rfl, rfl⟩)) hI)
theorem du_fused {post : Int32 → St2 → Prop} {p : Nat} {x0 x1 x2 x3 : Int32} (hI : du_I p pr a1 a2 a3)
    (H : ∀ (r ra' n : Int32) (m : Int64) (s o : Int32) (b1 b2 : Nat → Int32), du_O r ra ra' a1 a2 b1 b2 → du_I p pr b1 b2 a3 → post r (pr, rm, ra', n, m, s, o, b1, b2, a3)) :
    wpX_fused post (pr, rm, ra, ne, ma, sc, mo, a1, a2, a3) x0 x1 x2 x3 := by
  have bad : post (-1) (pr, rm, ra, ne, ma, sc, mo, a1, a2, a3) := H (-1) ra ne ma sc mo a1 a2 (Or.inl ⟨rfl, rfl, rfl, rfl⟩) hI
  unfold wpX_fused
  dsimp only
  refine du_isReg (fun d hd ed => br_f (by decide) ?_) (fun _ => br_t rfl bad)
  refine du_isReg (fun i hi ei => br_f (by decide) ?_) (fun _ => br_t rfl bad)
  refine du_isReg (fun k hk ek => br_f (by decide) ?_) (fun _ => br_t rfl bad)
  refine du_isReg (fun l hl el => br_f (by decide) ?_) (fun _ => br_t rfl bad)
  subst ed ei ek el
  have h3 := hI.2.2.2.1
  have bi := du_R7 hI.2.1 hI.2.2.2.2 hi
  have bk := du_R7 hI.2.1 hI.2.2.2.2 hk
  have bl := du_R7 hI.2.1 hI.2.2.2.2 hl
  have vi : vp_in (nI i) 6 := vp_in_nI hi (by omega)
  have vk : vp_in (nI k) 6 := vp_in_nI hk (by omega)
  have vl : vp_in (nI l) 6 := vp_in_nI hl (by omega)
  have hw : (a2 i + a2 k).toInt = (a2 i).toInt + (a2 k).toInt := du_a32 rfl rfl (by omega) (by omega)
  have hb := du_mm (x := (a1 i).toInt) (y := (a1 k).toInt) bi.1 bi.2.1 bk.1 bk.2.1
  rw [nI_clamp (show i < 2 ^ 31 by omega), nI_clamp (show k < 2 ^ 31 by omega), nI_clamp (show l < 2 ^ 31 by omega)]
  refine ⟨vi, vk, nm_e ⟨vi, vk, nm_e ⟨vl, vl, ?_⟩⟩⟩
  refine du_sum _ _ _ _ h3 (du_m64 (du_l32 rfl) (du_l32 rfl) (by omega) (by omega)) hw (du_l32 rfl) rfl (by omega) (by omega) (by omega) (by omega) (fun n m s o hS => ?_)
  have h01 := du_S01 hS
  have hsb := hS.2
  have hsd : -200 ≤ s.toInt ∧ s.toInt ≤ 200 := by omega
  exact ⟨vl, fun _ => ⟨vl, du_fin hI hd h01.1 h01.2 hsd H⟩, fun _ => du_fin hI hd h01.1 h01.2 hsd H⟩
theorem du_q143 {post : Int32 → St2 → Prop} {p j : Nat} {x3 x4 n : Int32} {m : Int64} {s o : Int32} (hI : du_I p pr a1 a2 a3) (hj : j < 6) (h3 : -20 ≤ x3.toInt ∧ x3.toInt ≤ 20) (h4 : x4 = 0 ∨ x4 = 2 ∨ x4 = 3) (hm : 0 ≤ m.toInt)
    (H : ∀ (r ra' n : Int32) (m : Int64) (s o : Int32) (b1 b2 : Nat → Int32), du_O r ra ra' a1 a2 b1 b2 → du_I p pr b1 b2 a3 → (¬ r < 0 → ¬ r = 8 → ∃ i : Nat, i < 6 ∧ nI j = nI i ∧ b2 i = x3) → post r (pr, rm, ra', n, m, s, o, b1, b2, a3)) :
    wX_quantise_143 post (nI j) x3 x4 pr rm ra n m s o a1 a2 a3 := by
  obtain ⟨p1, p2, p3, h10, hR⟩ := hI
  subst p3
  have g := du_pm p2
  rw [du_e7] at g
  unfold wX_quantise_143
  refine ⟨vp_in_nI (by omega) (by omega), ?_⟩
  rw [nI_clamp (show p < 2 ^ 31 by omega)]
  refine du_lLt rfl (h10 p (by omega)) (fun h => ?_) (fun h => ?_)
  · refine du_store hj hm (by omega) h3 (fun c hc => du_raise ?_)
    exact H x4 _ n m x3 o _ _ (Or.inr (Or.inr ⟨h4, rfl⟩)) ⟨p1, p2, rfl, h10, du_Rup hR (by omega) h3⟩ (fun _ _ => ⟨j, hj, rfl, pk_us⟩)
  · exact du_raise (H 8 _ n m s o a1 a2 (Or.inr (Or.inl ⟨Or.inr rfl, rfl, rfl, rfl⟩)) ⟨p1, p2, rfl, h10, hR⟩ (fun _ z => absurd rfl z))
theorem du_quant {post : Int32 → St2 → Prop} {p : Nat} {x0 x1 x2 : Int32} (hI : du_I p pr a1 a2 a3)
    (H : ∀ (r ra' n : Int32) (m : Int64) (s o : Int32) (b1 b2 : Nat → Int32), du_O r ra ra' a1 a2 b1 b2 → du_I p pr b1 b2 a3 → (¬ r < 0 → ¬ r = 8 → ∃ i : Nat, i < 6 ∧ x0 = nI i ∧ b2 i = x2) → post r (pr, rm, ra', n, m, s, o, b1, b2, a3)) :
    wpX_quantise post (pr, rm, ra, ne, ma, sc, mo, a1, a2, a3) x0 x1 x2 := by
  have bad : post (-1) (pr, rm, ra, ne, ma, sc, mo, a1, a2, a3) := H (-1) ra ne ma sc mo a1 a2 (Or.inl ⟨rfl, rfl, rfl, rfl⟩) hI (fun z => absurd (by decide) z)
  unfold wpX_quantise
  dsimp only
  refine du_isReg (fun j hj ej => br_f (by decide) ?_) (fun _ => br_t rfl bad)
  refine du_isReg (fun i hi ei => br_f (by decide) ?_) (fun _ => br_t rfl bad)
  subst ej ei
  have h3 := hI.2.2.2.1
  have bi := du_R7 hI.2.1 hI.2.2.2.2 hi
  have vi : vp_in (nI i) 6 := vp_in_nI hi (by omega)
  rw [nI_clamp (show i < 2 ^ 31 by omega)]
  refine du_cLt (a := x2.toInt) (b := -20) rfl (by decide) (fun _ => bad) (fun c1 => du_cLe (a := x2.toInt) (b := 20) rfl (by decide) (fun c2 => ⟨vi, vi, ?_⟩) (fun _ => bad))
  refine du_take (a1 i).toInt (du_l32 rfl) (by omega) (fun n m hnm => ?_)
  dsimp only
  have hm : (n = 0 ∨ n = 1) ∧ 0 ≤ m.toInt ∧ m.toInt < 10000000 := by
    rcases hnm with g | g
    · exact ⟨Or.inl g.1, by omega, by omega⟩
    · exact ⟨Or.inr g.1, by omega, by omega⟩
  have hsub : (a2 i - x2).toInt = (a2 i).toInt - x2.toInt := du_s32 rfl rfl (by omega) (by omega)
  have m82 : (m.toInt ≠ 0 → x2.toInt ≤ (a2 i).toInt) → wX_quantise_82 post (nI j) x2 0 pr rm ra n m (a2 i) 0 a1 a2 a3 := by
    intro hle
    unfold wX_quantise_82
    refine du_lEq (b := 0) rfl (by decide) (fun g => ⟨fun _ => du_q143 hI hj ⟨c1, c2⟩ (Or.inl rfl) hm.2.1 H, fun _ => du_q143 hI hj ⟨c1, c2⟩ (Or.inr (Or.inl rfl)) hm.2.1 H⟩) (fun g => nm_e ?_)
    have hle' := hle g
    refine du_cLe (b := 7) hsub (by decide) (fun g7 => ⟨du_in hsub (by omega) (by omega), ?_⟩) (fun _ => ?_)
    · rw [du_cl hsub]
      have hu := h3 ((a2 i).toInt - x2.toInt).toNat (by omega)
      have hpu := du_pp ((a2 i).toInt - x2.toInt).toNat
      have hpm := du_pm (show ((a2 i).toInt - x2.toInt).toNat ≤ 7 by omega)
      rw [du_e7] at hpm
      have hb := du_mm (x := m.toInt) (y := 10 ^ ((a2 i).toInt - x2.toInt).toNat) (b := 10000000) (c := 10000001) (by omega) (by omega) (by omega) (by omega)
      have hnn : 0 ≤ m.toInt * 10 ^ ((a2 i).toInt - x2.toInt).toNat := Int.mul_nonneg hm.2.1 (by omega)
      have hmm := du_m64 (x := m) rfl hu (by omega) (by omega)
      exact nm_e (du_q143 hI hj ⟨c1, c2⟩ (Or.inl rfl) (by omega) H)
    · exact du_raise (H 8 _ n m _ 0 a1 a2 (Or.inr (Or.inl ⟨Or.inr rfl, rfl, rfl, rfl⟩)) hI (fun _ z => absurd rfl z))
  refine du_lEq (b := 0) rfl (by decide) (fun g => m82 (fun z => absurd g z)) (fun g => du_cLe rfl rfl (fun g2 => m82 (fun _ => g2)) (fun g2 => ?_))
  have hx : (x2 - a2 i).toInt = ((x2.toInt - (a2 i).toInt).toNat : Int) := by
    rw [du_s32 rfl rfl (by omega) (by omega)]
    omega
  refine du_drop _ hx (by omega) (by omega) h3 hm.1 hm.2.1 (by omega) (fun r m' s' hr hm0 _ _ _ => ?_)
  exact du_q143 hI hj ⟨c1, c2⟩ (Or.inr hr) hm0 H
theorem du_set {post : Int32 → St2 → Prop} {p : Nat} {x0 x1 x2 : Int32} (hI : du_I p pr a1 a2 a3)
    (H1 : ∀ j : Nat, j < 6 → x0 = nI j → -(10 ^ p : Int) < x1.toInt → x1.toInt < 10 ^ p → -20 ≤ x2.toInt → x2.toInt ≤ 20 → post 1 (pr, rm, ra, ne, ma, sc, mo, upd a1 j x1, upd a2 j x2, a3))
    (H0 : x0.toInt < 0 ∨ 5 < x0.toInt ∨ x1.toInt ≤ -(10 ^ p : Int) ∨ 10 ^ p ≤ x1.toInt ∨ x2.toInt < -20 ∨ 20 < x2.toInt → post 0 (pr, rm, ra, ne, ma, sc, mo, a1, a2, a3)) :
    wpX_set post (pr, rm, ra, ne, ma, sc, mo, a1, a2, a3) x0 x1 x2 := by
  obtain ⟨p1, p2, p3, h10, hR⟩ := hI
  subst p3
  have g := du_pm p2
  rw [du_e7] at g
  have gl := x1.toInt_lt
  have gg := x1.le_toInt
  unfold wpX_set
  dsimp only
  refine du_isReg (fun j hj ej => br_f (by decide) ?_) (fun h => br_t rfl (H0 (by omega)))
  subst ej
  have m34 : ∀ z : Int64, ((0 ≤ x1.toInt ∧ z.toInt = x1.toInt) ∨ (x1.toInt < 0 ∧ z.toInt = -x1.toInt)) → -20 ≤ x2.toInt → x2.toInt ≤ 20 → wX_set_34 post (nI j) x1 x2 z (nI p) rm ra ne ma sc mo a1 a2 a3 := by
    intro z hz c1 c2
    unfold wX_set_34
    rw [nI_clamp (show p < 2 ^ 31 by omega), nI_clamp (show j < 2 ^ 31 by omega), du_i8e (x := x2) rfl (by omega) (by omega)]
    refine ⟨vp_in_nI (by omega) (by omega), du_lLt rfl (h10 p (by omega)) (fun h => ⟨vp_in_nI hj (by omega), nm_e ⟨vp_in_nI hj (by omega), nm_e ?_⟩⟩) (fun h => H0 (by omega))⟩
    exact H1 j hj rfl (by omega) (by omega) c1 c2
  refine du_cLt (a := x2.toInt) (b := -20) rfl (by decide) (fun c => H0 (by omega)) (fun c1 => du_cLe (a := x2.toInt) (b := 20) rfl (by decide) (fun c2 => ?_) (fun c => H0 (by omega)))
  refine du_cLe (a := 0) (by decide) rfl (fun e => m34 _ (Or.inl ⟨e, du_l32 rfl⟩) c1 c2) (fun e => m34 _ (Or.inr ⟨e, du_n64 (du_l32 rfl) (by omega) (by omega)⟩) c1 c2)
end
end
section
theorem du_neg {r r' : Int32} {V V' : Int} (h : (r = 0 ∧ V = 0) ∨ (r = 1 ∧ 0 < V) ∨ (r = -1 ∧ V < 0)) (h' : (r' = 0 ∧ V' = 0) ∨ (r' = 1 ∧ 0 < V') ∨ (r' = -1 ∧ V' < 0)) (e : V = -V') : r = -r' := by
  rcases h with ⟨h1, h2⟩ | ⟨h1, h2⟩ | ⟨h1, h2⟩
  · rcases h' with ⟨g1, g2⟩ | ⟨g1, g2⟩ | ⟨g1, g2⟩
    · rw [h1, g1]
      decide
    · omega
    · omega
  · rcases h' with ⟨g1, g2⟩ | ⟨g1, g2⟩ | ⟨g1, g2⟩
    · omega
    · omega
    · rw [h1, g1]
      decide
  · rcases h' with ⟨g1, g2⟩ | ⟨g1, g2⟩ | ⟨g1, g2⟩
    · omega
    · rw [h1, g1]
    · omega
section
variable {pr rm ra ne : Int32} {ma : Int64} {sc mo : Int32} {a1 a2 : Nat → Int32} {a3 : Nat → Int64}
variable {post : Int32 → Prop} {L : Nat} {xs : Nat → Int32} {J : Int32 → Int32 → Int32 → Int32 → Int32 → Int32 → Int64 → Int32 → Int32 → (Nat → Int32) → (Nat → Int32) → (Nat → Int64) → Prop}
variable {x3 x5 x6 x7 x11 x12 : Int32} {kc ks : Nat}
theorem du_531 {p : Nat} (hI : du_I p pr a1 a2 a3) (hx3 : x3.toInt = 10 ^ p) (HJ : ∀ (n : Int32) (m : Int64) (s o : Int32), J x5 (x6 + 5) pr rm ra n m s o a1 a2 a3) :
    ∀ (k i : Nat) (n : Int32) (m : Int64) (s o : Int32), i + k = 6 → wL_law_531 post L xs J x3 x5 x6 x7 kc ks (k + 1) (nI i) pr rm ra n m s o a1 a2 a3 := by
  intro k
  induction k with
  | zero =>
    intro i n m s o hi
    refine pk_le 6 i (fun _ => ?_) (fun z => absurd z (by omega))
    refine du_coef0 (Or.inr (by decide)) (br_t rfl ?_)
    refine du_exp0 (Or.inl (by decide)) (br_t rfl ?_)
    exact du_cmpB (Or.inr (by decide)) (br_t rfl (nm_e (HJ n m s o)))
  | succ k ih =>
    intro i n m s o hi
    have hi6 : i < 6 := by omega
    have g := du_pm hI.2.1
    rw [du_e7] at g
    have g0 := du_pp p
    have b1 := hI.2.2.2.2.1 i hi6
    have b2 := hI.2.2.2.2.2 i hi6
    obtain ⟨c, hc, ec⟩ := pk_andE x7 (m := 3) 2 (by decide)
    have hc6 : c < 6 := by
      have : (2 : Nat) ^ 2 = 4 := by decide
      omega
    refine pk_le 6 i (fun z => absurd z (by omega)) (fun _ => ?_)
    refine du_coefN hi6 ?_
    refine du_cLe rfl (du_n32 hx3 (by omega) (by omega)) (fun z => absurd z (by omega)) (fun _ => ?_)
    refine du_cLe hx3 rfl (fun z => absurd z (by omega)) (fun _ => ?_)
    refine du_expN hi6 (du_cLt (b := -20) rfl (by decide) (fun z => absurd z (by omega)) (fun _ => ?_))
    refine du_expN hi6 (du_cLe (b := 20) rfl (by decide) (fun _ => ?_) (fun z => absurd z (by omega)))
    refine du_cmp hI hi6 hi6 (fun r0 n0 m0 s0 o0 h0 => ?_)
    rw [du_V0] at h0
    have er0 : r0 = 0 := by
      rcases h0 with z | z | z
      · exact z.1
      · exact absurd z.2 (by omega)
      · exact absurd z.2 (by omega)
    refine br_t er0 ?_
    rw [ec]
    refine du_cmp hI hi6 hc6 (fun r1 n1 m1 s1 o1 h1 => ?_)
    refine du_cmp hI hc6 hi6 (fun r2 n2 m2 s2 o2 h2 => ?_)
    exact br_t (du_neg h1 h2 (du_Vn _ _ _ _)) (nm_r (nI_1 i) (ih (i + 1) n2 m2 s2 o2 (by omega)))
theorem du_516 {p : Nat} (hI : du_I p pr a1 a2 a3) (hx3 : x3.toInt = 10 ^ p) (hra : ra = x5) (HJ : ∀ (n : Int32) (m : Int64) (s o : Int32), J x5 (x6 + 5) pr rm ra n m s o a1 a2 a3) :
    wL_law_516 post L xs J x3 x5 x6 x7 kc ks pr rm ra ne ma sc mo a1 a2 a3 :=
  br_t hra ⟨7, du_531 hI hx3 HJ 6 0 ne ma sc mo (by omega)⟩
theorem du_504 {p : Nat} (hI : du_I p pr a1 a2 a3) (hx3 : x3.toInt = 10 ^ p) (hra : (x12 ≤ 0 ∧ ra = x5) ∨ (¬ x12 ≤ 0 ∧ ra = x5 ||| x12)) (HJ : ∀ (n : Int32) (m : Int64) (s o : Int32), J ra (x6 + 5) pr rm ra n m s o a1 a2 a3) :
    wL_law_504 post L xs J x3 x5 x6 x7 x12 kc ks pr rm ra ne ma sc mo a1 a2 a3 := by
  rcases hra with ⟨h1, h2⟩ | ⟨h1, h2⟩
  · refine br_t h1 (du_516 hI hx3 h2 ?_)
    rw [← h2]
    exact HJ
  · refine br_f h1 (nm_r h2.symm (du_516 hI hx3 rfl HJ))
theorem du_411 {p : Nat} {c1 c2 : Nat → Int32} (hI : du_I p pr a1 a2 a3) (hx3 : x3.toInt = 10 ^ p) (hO : du_O x12 x5 ra c1 c2 a1 a2) (h11 : x11 = du_h c1 c2 6) (hin : vp_in x6 L)
    (HJ : ∀ (n : Int32) (m : Int64) (s o : Int32), J ra (x6 + 5) pr rm ra n m s o a1 a2 a3) :
    wL_law_411 post L xs J x3 x5 x6 x7 x11 x12 kc ks pr rm ra ne ma sc mo a1 a2 a3 := by
  rcases hO with ⟨e, h1, h2, h3⟩ | ⟨e, h1, h2, h3⟩ | ⟨e, h1⟩
  · subst e h2 h3
    have m504 : wL_law_504 post L xs J x3 x5 x6 x7 (-1) kc ks pr rm ra ne ma sc mo a1 a2 a3 := du_504 hI hx3 (Or.inl ⟨by decide, h1⟩) HJ
    have m487 : wL_law_487 post L xs J x3 x5 x6 x7 x11 (-1) 1 kc ks pr rm ra ne ma sc mo a1 a2 a3 := br_f (by decide) (du_hash (br_t h11.symm m504))
    exact br_f (by decide) (br_t rfl (br_t (by decide) (br_t (by decide) (br_t (by decide) m487))))
  · subst h2 h3
    rcases e with e | e
    · subst e
      have m504 : wL_law_504 post L xs J x3 x5 x6 x7 4 kc ks pr rm ra ne ma sc mo a1 a2 a3 := du_504 hI hx3 (Or.inr ⟨by decide, h1⟩) HJ
      have m487 : wL_law_487 post L xs J x3 x5 x6 x7 x11 4 1 kc ks pr rm ra ne ma sc mo a1 a2 a3 := br_f (by decide) (du_hash (br_t h11.symm m504))
      exact br_t (by decide) (br_t (by decide) (br_f (by decide) (br_f (by decide) (br_t rfl (br_f (by decide) (br_t (by decide) m487))))))
    · subst e
      have m504 : wL_law_504 post L xs J x3 x5 x6 x7 8 kc ks pr rm ra ne ma sc mo a1 a2 a3 := du_504 hI hx3 (Or.inr ⟨by decide, h1⟩) HJ
      have m487 : wL_law_487 post L xs J x3 x5 x6 x7 x11 8 1 kc ks pr rm ra ne ma sc mo a1 a2 a3 := br_f (by decide) (du_hash (br_t h11.symm m504))
      exact br_t (by decide) (br_t (by decide) (br_f (by decide) (br_t rfl (br_f (by decide) (br_t (by decide) m487)))))
  · rcases e with e | e | e
    · subst e
      have h1' : ra = x5 := by
        rw [h1]
        exact Int32.or_zero
      have m504 : wL_law_504 post L xs J x3 x5 x6 x7 0 kc ks pr rm ra ne ma sc mo a1 a2 a3 := du_504 hI hx3 (Or.inl ⟨by decide, h1'⟩) HJ
      have m487 : wL_law_487 post L xs J x3 x5 x6 x7 x11 0 0 kc ks pr rm ra ne ma sc mo a1 a2 a3 := br_t rfl m504
      exact br_t (by decide) (br_t (by decide) (br_f (by decide) (br_f (by decide) (br_f (by decide) (br_t (by decide) m487)))))
    · subst e
      have m504 : wL_law_504 post L xs J x3 x5 x6 x7 2 kc ks pr rm ra ne ma sc mo a1 a2 a3 := du_504 hI hx3 (Or.inr ⟨by decide, h1⟩) HJ
      have m487 : wL_law_487 post L xs J x3 x5 x6 x7 x11 2 0 kc ks pr rm ra ne ma sc mo a1 a2 a3 := br_t rfl m504
      exact br_t (by decide) (br_t (by decide) (br_f (by decide) (br_f (by decide) (br_f (by decide) (br_f (by decide) (br_t (by decide) m487))))))
    · subst e
      have m504 : wL_law_504 post L xs J x3 x5 x6 x7 3 kc ks pr rm ra ne ma sc mo a1 a2 a3 := du_504 hI hx3 (Or.inr ⟨by decide, h1⟩) HJ
      have m487 : wL_law_487 post L xs J x3 x5 x6 x7 x11 3 0 kc ks pr rm ra ne ma sc mo a1 a2 a3 := br_t rfl m504
      exact br_t (by decide) (br_t (by decide) (br_f (by decide) (br_f (by decide) (br_f (by decide) (br_f (by decide) (br_f (by decide) ⟨hin, fun _ => m487, fun _ => br_t rfl m487⟩))))))
/-- a call that changes neither flags nor answers a flag -/
theorem du_411z {p : Nat} (hI : du_I p pr a1 a2 a3) (hx3 : x3.toInt = 10 ^ p) (hra : ra = x5) (hin : vp_in x6 L)
    (HJ : ∀ (n : Int32) (m : Int64) (s o : Int32), J ra (x6 + 5) pr rm ra n m s o a1 a2 a3) :
    wL_law_411 post L xs J x3 x5 x6 x7 x11 0 kc ks pr rm ra ne ma sc mo a1 a2 a3 := by
  have m504 : wL_law_504 post L xs J x3 x5 x6 x7 0 kc ks pr rm ra ne ma sc mo a1 a2 a3 := du_504 hI hx3 (Or.inl ⟨by decide, hra⟩) HJ
  have m487 : wL_law_487 post L xs J x3 x5 x6 x7 x11 0 0 kc ks pr rm ra ne ma sc mo a1 a2 a3 := br_t rfl m504
  exact br_t (by decide) (br_t (by decide) (br_f (by decide) (br_f (by decide) (br_f (by decide) (br_t (by decide) m487)))))
theorem du_235 {p : Nat} {x8 x9 : Int32} (hI : du_I p pr a1 a2 a3) (hx3 : x3.toInt = 10 ^ p) (hra : ra = x5) (hin : vp_in x6 L)
    (HJ : ∀ (n : Int32) (m : Int64) (s o : Int32) (b1 b2 : Nat → Int32), du_I p pr b1 b2 a3 → J ra (x6 + 5) pr rm ra n m s o b1 b2 a3) :
    wL_law_235 post L xs J x3 x5 x6 x7 x8 x9 0 kc ks pr rm ra ne ma sc mo a1 a2 a3 := by
  have g := du_pm hI.2.1
  rw [du_e7] at g
  have g0 := du_pp p
  have m329 : ∀ b1 b2 : Nat → Int32, du_I p pr b1 b2 a3 → wL_law_329 post L xs J x3 x5 x6 x7 0 kc ks pr rm ra ne ma sc mo b1 b2 a3 :=
    fun b1 b2 hb => du_hash (du_411z hb hx3 hra hin (fun n m s o => HJ n m s o b1 b2 hb))
  have no : x7.toInt < 0 ∨ 5 < x7.toInt ∨ x8.toInt ≤ -(10 ^ p : Int) ∨ 10 ^ p ≤ x8.toInt ∨ x9.toInt < -20 ∨ 20 < x9.toInt → wL_law_277 post L xs J x3 x5 x6 x7 x8 x9 0 kc ks pr rm ra ne ma sc mo a1 a2 a3 := by
    intro h
    unfold wL_law_277 wL_law_278
    refine du_set hI (fun j hj e h1 h2 h4 h5 => ?_) (fun _ => br_t rfl (br_t rfl (m329 a1 a2 hI)))
    rw [e, nI_toInt (by omega)] at h
    omega
  unfold wL_law_235
  refine du_cLt (b := 0) rfl (by decide) (fun h => no (by omega)) (fun h1 => ?_)
  refine du_cLt (a := 5) (by decide) rfl (fun h => no (by omega)) (fun h2 => ?_)
  refine du_cLe rfl (du_n32 hx3 (by omega) (by omega)) (fun h => no (by omega)) (fun h3 => ?_)
  refine du_cLe hx3 rfl (fun h => no (by omega)) (fun h4 => ?_)
  refine du_cLt (b := -20) rfl (by decide) (fun h => no (by omega)) (fun h5 => ?_)
  refine du_cLt (a := 20) (by decide) rfl (fun h => no (by omega)) (fun h6 => ?_)
  unfold wL_law_278
  refine du_set hI (fun j hj e _ _ _ _ => ?_) (fun h => absurd h (by omega))
  have hb : du_I p pr (upd a1 j x8) (upd a2 j x9) a3 := ⟨hI.1, hI.2.1, hI.2.2.1, hI.2.2.2.1, du_Rup hI.2.2.2.2 ⟨h3, h4⟩ ⟨h5, h6⟩⟩
  have t := m329 _ _ hb
  refine br_t rfl (br_f (by decide) ?_)
  have tc : ∀ Q : Int32 → Prop, Q x8 → wpX_coefficient Q (pr, rm, ra, ne, ma, sc, mo, upd a1 j x8, upd a2 j x9, a3) x7 := by
    intro Q hQ
    rw [e]
    refine du_coefN hj ?_
    rw [pk_us]
    exact hQ
  have te : ∀ Q : Int32 → Prop, Q x9 → wpX_exponent Q (pr, rm, ra, ne, ma, sc, mo, upd a1 j x8, upd a2 j x9, a3) x7 := by
    intro Q hQ
    rw [e]
    refine du_expN hj ?_
    rw [pk_us]
    exact hQ
  exact tc _ (br_t rfl (te _ (br_t rfl t)))
end
end
section
theorem du_90 {L : Nat} {xs : Nat → Int32} {x3 : Int32} {kc ks p : Nat} (hL : L ≤ 260) (hx3 : x3.toInt = 10 ^ p) :
    ∀ (k i : Nat) (pr rm ra ne : Int32) (ma : Int64) (sc mo : Int32) (a1 a2 : Nat → Int32) (a3 : Nat → Int64), L ≤ i + k → i ≤ 300 → du_I p pr a1 a2 a3 →
      wL_law_90 (fun r => r = 1) L xs x3 kc ks (k + 1) ra (nI i) pr rm ra ne ma sc mo a1 a2 a3 := by
  intro k
  induction k with
  | zero =>
    intro i pr rm ra ne ma sc mo a1 a2 a3 h1 h2 hI
    have hs : (Int32.ofNat L - 5).toInt = (L : Int) - 5 := du_s32 (nI_toInt (n := L) (by omega)) (by decide) (by omega) (by omega)
    exact du_cLt hs (nI_toInt (by omega)) (fun _ => rfl) (fun z => absurd z (by omega))
  | succ k ih =>
    intro i pr rm ra ne ma sc mo a1 a2 a3 h1 h2 hI
    have hs : (Int32.ofNat L - 5).toInt = (L : Int) - 5 := du_s32 (nI_toInt (n := L) (by omega)) (by decide) (by omega) (by omega)
    refine du_cLt hs (nI_toInt (by omega)) (fun _ => rfl) (fun z => ?_)
    have hin : vp_in (nI i) L := vp_in_nI (by omega) (by omega)
    have v1 : vp_in (nI i + 1) L := du_in (du_a32 (nI_toInt (by omega)) (b := 1) (by decide) (by omega) (by omega)) (by omega) (by omega)
    have v2 : vp_in (nI i + 2) L := du_in (du_a32 (nI_toInt (by omega)) (b := 2) (by decide) (by omega) (by omega)) (by omega) (by omega)
    have v3 : vp_in (nI i + 3) L := du_in (du_a32 (nI_toInt (by omega)) (b := 3) (by decide) (by omega) (by omega)) (by omega) (by omega)
    have v4 : vp_in (nI i + 4) L := du_in (du_a32 (nI_toInt (by omega)) (b := 4) (by decide) (by omega) (by omega)) (by omega) (by omega)
    have e5 : nI i + 5 = nI (i + 5) := nI_add i 5
    have HJ : ∀ (rm ra n : Int32) (m : Int64) (s o : Int32) (b1 b2 : Nat → Int32), du_I p pr b1 b2 a3 → wL_law_90 (fun r => r = 1) L xs x3 kc ks (k + 1) ra (nI i + 5) pr rm ra n m s o b1 b2 a3 := by
      intro rm ra n m s o b1 b2 hb
      rw [e5]
      exact ih (i + 5) pr rm ra n m s o b1 b2 a3 (by omega) (by omega) hb
    refine ⟨v1, nm_e ⟨v2, nm_e ⟨v3, nm_e ⟨v4, nm_e (du_hash ⟨hin, nm_e ?_⟩)⟩⟩⟩⟩
    refine ⟨fun _ => ?_, fun _ => ⟨fun _ => ?_, fun _ => ⟨fun _ => ?_, fun _ => ⟨fun _ => ?_, fun _ => ⟨fun _ => ?_, fun _ => ⟨fun _ => ?_, fun _ => ⟨fun _ => ?_, fun _ => ⟨fun _ => ?_, fun _ => trivial⟩⟩⟩⟩⟩⟩⟩⟩
    · exact du_apply hI (fun r ra' n m s o b1 b2 hO hb => du_411 hb hx3 hO rfl hin (fun n m s o => HJ _ _ n m s o b1 b2 hb))
    · exact du_apply hI (fun r ra' n m s o b1 b2 hO hb => du_411 hb hx3 hO rfl hin (fun n m s o => HJ _ _ n m s o b1 b2 hb))
    · exact br_t rfl (du_411z hI hx3 rfl hin (fun n m s o => HJ _ _ n m s o a1 a2 hI))
    · have t : ∀ rm' : Int32, wL_law_411 (fun r => r = 1) L xs (wL_law_90 (fun r => r = 1) L xs x3 kc ks (k + 1)) x3 ra (nI i) (xs (nI i + 1).toNatClampNeg) (du_h a1 a2 6) 0 kc ks pr rm' ra ne ma sc mo a1 a2 a3 :=
        fun rm' => du_411z hI hx3 rfl hin (fun n m s o => HJ _ _ n m s o a1 a2 hI)
      refine ⟨fun g => ?_, fun g => ⟨fun g2 => ?_, fun g2 => ?_⟩⟩
      · exact br_t g (br_t rfl (t rm))
      · exact br_f g (br_f (Int32.not_lt.mpr g2) (br_t rfl (t _)))
      · exact br_f g (br_t (Int32.not_le.mp g2) (br_t rfl (t rm)))
    · exact du_235 hI hx3 rfl hin (fun n m s o b1 b2 hb => HJ _ _ n m s o b1 b2 hb)
    · exact du_235 hI hx3 rfl hin (fun n m s o b1 b2 hb => HJ _ _ n m s o b1 b2 hb)
    · refine du_quant hI (fun r ra' n m s o b1 b2 hO hb hq => ?_)
      have t : wL_law_411 (fun r => r = 1) L xs (wL_law_90 (fun r => r = 1) L xs x3 kc ks (k + 1)) x3 ra (nI i) (xs (nI i + 1).toNatClampNeg) (du_h a1 a2 6) r kc ks pr rm ra' n m s o b1 b2 a3 :=
        du_411 hb hx3 hO rfl hin (fun n m s o => HJ _ _ n m s o b1 b2 hb)
      refine ⟨fun _ => t, fun g1 => ⟨fun _ => t, fun g2 => ?_⟩⟩
      obtain ⟨j, hj, ej, eb⟩ := hq g1 g2
      have te : ∀ Q : Int32 → Prop, Q (b2 j) → wpX_exponent Q (pr, rm, ra', n, m, s, o, b1, b2, a3) (xs (nI i + 1).toNatClampNeg) := by
        intro Q hQ
        rw [ej]
        exact du_expN hj hQ
      exact te _ (br_t eb t)
    · exact du_fused hI (fun r ra' n m s o b1 b2 hO hb => du_411 hb hx3 hO rfl hin (fun n m s o => HJ _ _ n m s o b1 b2 hb))
theorem du_62 {post : St2 → Prop} {mc ms kc ks : Nat} {pr rm ra ne : Int32} {ma : Int64} {sc mo : Int32} {a1 a2 : Nat → Int32}
    (H : ∀ b3 : Nat → Int64, (∀ k, k < 19 → (b3 k).toInt = 10 ^ k) → post (pr, rm, ra, ne, ma, sc, mo, a1, a2, b3)) :
    ∀ (k i : Nat) (b3 : Nat → Int64), i + k = 19 → 1 ≤ i → (∀ j, j < i → (b3 j).toInt = 10 ^ j) → wX_init_62 post mc ms kc ks pr rm ra ne ma sc mo (k + 1) (nI i) a1 a2 b3 := by
  intro k
  induction k with
  | zero =>
    intro i b3 h1 h2 h3
    exact pk_le 19 i (fun _ => H b3 (fun j hj => h3 j (by omega))) (fun z => absurd z (by omega))
  | succ k ih =>
    intro i b3 h1 h2 h3
    refine pk_le 19 i (fun z => absurd z (by omega)) (fun _ => ?_)
    have e1 : nI i - 1 = nI (i - 1) := pk_sub (b := 1) h2
    rw [e1, nI_clamp (show i - 1 < 2 ^ 31 by omega), nI_clamp (show i < 2 ^ 31 by omega)]
    refine ⟨vp_in_nI (by omega) (by omega), vp_in_nI (by omega) (by omega), nm_e (nm_r (nI_1 i) (ih (i + 1) _ (by omega) (by omega) (fun j hj => ?_)))⟩
    by_cases g : j = i
    · rw [g, pk_uLs]
      have hp := h3 (i - 1) (by omega)
      have hb := du_pm (show i - 1 ≤ 17 by omega)
      rw [du_e17] at hb
      have h0 := du_pp (i - 1)
      have e2 := du_ps (i - 1)
      rw [show i - 1 + 1 = i by omega] at e2
      rw [du_m64 (a := 10) (by decide) hp (by omega) (by omega)]
      omega
    · rw [pk_uLn g]
      exact h3 j (by omega)
theorem du_init {post : St2 → Prop} {r : Int32} {p : Nat} (hp : (r.toInt < 3 ∧ p = 3) ∨ (7 < r.toInt ∧ p = 7) ∨ (r = nI p ∧ 3 ≤ p ∧ p ≤ 7))
    (H : ∀ b3 : Nat → Int64, (∀ k, k < 19 → (b3 k).toInt = 10 ^ k) → post (nI p, 0, 0, 0, 0, 0, 0, (fun _ => 0), (fun _ => 0), b3)) :
    wpX_init post 3 31 (0, 0, 0, 0, 0, 0, 0) r := by
  have m50 : wX_init_50 post 3 31 (nI p) 3 31 0 0 0 0 0 0 0 (fun _ => 0) (fun _ => 0) (fun _ => 0) := by
    unfold wX_init_50
    refine nm_e ⟨19, du_62 H 18 1 _ (by omega) (by omega) (fun j hj => ?_)⟩
    have hj0 : j = 0 := by omega
    rw [hj0, pk_uLs]
    decide
  unfold wpX_init
  dsimp only
  refine ⟨by omega, by omega, by omega, by omega, by omega, by omega, ?_⟩
  rcases hp with ⟨h1, h2⟩ | ⟨h1, h2⟩ | ⟨h1, h2, h4⟩
  · subst h2
    exact du_cLe (a := 3) (by decide) rfl (fun z => absurd z (by omega)) (fun _ => m50)
  · subst h2
    exact du_cLe (a := 3) (by decide) rfl (fun _ => du_cLe (b := 7) rfl (by decide) (fun z => absurd z (by omega)) (fun _ => m50)) (fun z => absurd z (by omega))
  · subst h1
    exact pk_le 3 p (fun _ => pk_le p 7 (fun _ => m50) (fun z => absurd z (by omega))) (fun z => absurd z (by omega))
theorem du_law73 {L : Nat} {xs : Nat → Int32} {r x3 : Int32} {p : Nat} (hL : L ≤ 260) (hx3 : x3.toInt = 10 ^ p) (h3 : 3 ≤ p) (h7 : p ≤ 7) (hp : (r.toInt < 3 ∧ p = 3) ∨ (7 < r.toInt ∧ p = 7) ∨ (r = nI p ∧ 3 ≤ p ∧ p ≤ 7)) :
    wL_law_73 (fun r => r = 1) L xs r x3 0 0 := by
  unfold wL_law_73
  refine ⟨by omega, by omega, 3, 31, by omega, by omega, du_init hp (fun b3 hb => ⟨L + 1, ?_⟩)⟩
  refine du_90 hL hx3 L 1 _ _ _ _ _ _ _ _ _ _ (by omega) (by omega) ⟨h3, h7, rfl, hb, fun k hk => ?_, fun k hk => ?_⟩
  · have g0 := du_pp p
    have e : (0 : Int32).toInt = 0 := by decide
    show -(10 ^ p : Int) < (0 : Int32).toInt ∧ (0 : Int32).toInt < 10 ^ p
    omega
  · show -20 ≤ (0 : Int32).toInt ∧ (0 : Int32).toInt ≤ 20
    decide
theorem du_law27 {L : Nat} {xs : Nat → Int32} {r : Int32} {p : Nat} (hL : L ≤ 260) (h3 : 3 ≤ p) (h7 : p ≤ 7) (hp : (r.toInt < 3 ∧ p = 3) ∨ (7 < r.toInt ∧ p = 7) ∨ (r = nI p ∧ 3 ≤ p ∧ p ≤ 7)) :
    wL_law_27 (fun r => r = 1) L xs r (nI p) 0 0 := by
  unfold wL_law_27
  have hc : p = 3 ∨ p = 4 ∨ p = 5 ∨ p = 6 ∨ p = 7 := by omega
  rcases hc with e | e | e | e | e
  · subst e
    exact br_t rfl (du_law73 hL (by decide) h3 h7 hp)
  · subst e
    exact br_f (by decide) (br_t rfl (du_law73 hL (by decide) h3 h7 hp))
  · subst e
    exact br_f (by decide) (br_f (by decide) (br_t rfl (du_law73 hL (by decide) h3 h7 hp)))
  · subst e
    exact br_f (by decide) (br_f (by decide) (br_f (by decide) (br_t rfl (du_law73 hL (by decide) h3 h7 hp))))
  · subst e
    exact br_f (by decide) (br_f (by decide) (br_f (by decide) (br_f (by decide) (du_law73 hL (by decide) h3 h7 hp))))
theorem i_vc (xs : Nat → Int32) (L : Nat) (hL : L ≤ 260) : wpL_law (fun r => r = 1) L xs := by
  have main : ∀ r : Int32, ((3 ≤ r → (((r ≤ 7 → (wL_law_27 (fun r => r = 1) L xs r r 0 0)) ∧ (¬ r ≤ 7 → (wL_law_27 (fun r => r = 1) L xs r 7 0 0))))) ∧ (¬ 3 ≤ r → (wL_law_27 (fun r => r = 1) L xs r 3 0 0))) := by
    intro r
    refine du_cLe (a := 3) (by decide) rfl (fun h1 => du_cLe (b := 7) rfl (by decide) (fun h2 => ?_) (fun h2 => ?_)) (fun h1 => ?_)
    · have e := du_nI (x := r) rfl (by omega) (by omega)
      have t := du_law27 (xs := xs) (r := r) (p := r.toInt.toNat) hL (by omega) (by omega) (Or.inr (Or.inr ⟨e, by omega, by omega⟩))
      rw [← e] at t
      exact t
    · exact du_law27 (p := 7) hL (by omega) (by omega) (Or.inr (Or.inl ⟨h2, rfl⟩))
    · exact du_law27 (p := 3) hL (by omega) (by omega) (Or.inl ⟨h1, rfl⟩)
  unfold wpL_law wpL_cell
  refine ⟨fun _ => main 0, fun h => ⟨?_, main _⟩⟩
  have hs : (Int32.ofNat L).toInt = (L : Int) := nI_toInt (n := L) (by omega)
  rw [Int32.le_iff_toInt_le, hs] at h
  have e0 : (0 : Int32).toInt = 0 := by decide
  exact du_in e0 (by omega) (by omega)
end
